section
/-! pure rows to paste: stores, nI and lN arithmetic, masks, shifts, narrowing, branches by naturals (pk_le, pk_lt, pk_eq), loops (lp1 .. lp16: the measure of the state; rp1 ..: recursion), negatives. Take what you need -/
theorem pk_us {f : Nat → Int32} {k : Nat} {x : Int32} : upd f k x k = x := if_pos rfl
theorem pk_un {f : Nat → Int32} {k j : Nat} {x : Int32} (h : j ≠ k) : upd f k x j = f j := if_neg h
theorem pk_uLs {f : Nat → Int64} {k : Nat} {x : Int64} : vp_updL f k x k = x := if_pos rfl
theorem pk_uLn {f : Nat → Int64} {k j : Nat} {x : Int64} (h : j ≠ k) : vp_updL f k x j = f j := if_neg h
theorem pk_sub {a b : Nat} (h : b ≤ a) : nI a - nI b = nI (a - b) := by
  obtain ⟨c, rfl⟩ : ∃ c, a = c + b := ⟨a - b, by omega⟩
  rw [← nI_add, Int32.add_sub_cancel, Nat.add_sub_cancel]
theorem pk_m1 (n : Nat) : nI (n + 1) + (-1) = nI n := by
  rw [← nI_1, Int32.add_assoc, show (1 : Int32) + (-1) = 0 from rfl, Int32.add_zero]
theorem pk_mul (a b : Nat) : nI a * nI b = nI (a * b) := (Int32.ofNat_mul a b).symm
theorem pk_div {a d : Nat} (ha : a < 2 ^ 31) (h0 : 0 < d) (hd : d < 2 ^ 31) : nI a / nI d = nI (a / d) := by
  apply Int32.toInt_inj.mp
  rw [lg_idiv_nonneg (by rw [nI_toInt ha]; omega) (by rw [nI_toInt hd]; omega), nI_toInt ha, nI_toInt hd, nI_toInt (Nat.lt_of_le_of_lt (Nat.div_le_self a d) ha)]
  first | rfl | exact (Int.natCast_ediv _ _).symm
theorem pk_rem {a d : Nat} (ha : a < 2 ^ 31) (h0 : 0 < d) (hd : d < 2 ^ 31) : nI a - nI a / nI d * nI d = nI (a % d) := by
  rw [pk_div ha h0 hd, pk_mul, pk_sub (Nat.div_mul_le_self a d)]
  exact congrArg nI (by have := Nat.div_add_mod' a d; omega)
theorem pk_sub_toInt {a b : Nat} (ha : a < 2 ^ 30) (hb : b < 2 ^ 30) : (nI a - nI b).toInt = (a : Int) - b := by
  rw [Int32.toInt_sub, nI_toInt (by omega), nI_toInt (by omega)]
  exact Int.bmod_eq_of_le (by omega) (by omega)
theorem pk_sneg {a b : Nat} (hb : b < 2 ^ 30) (h : a < b) : nI a - nI b < 0 := by
  rw [Int32.lt_iff_toInt_lt, pk_sub_toInt (by omega) hb, show (0 : Int32).toInt = 0 from by decide]
  omega
theorem pk_ix (x : Int32) {n : Nat} (hn : n < 2 ^ 31) : x < 0 ∨ nI n ≤ x ∨ ∃ j : Nat, j < n ∧ x = nI j := by
  by_cases h : x < 0
  · exact Or.inl h
  · obtain ⟨j, hj, rfl⟩ := nI_of h
    by_cases h2 : j < n
    · exact Or.inr (Or.inr ⟨j, h2, rfl⟩)
    · exact Or.inr (Or.inl (nI_le (by omega) hj))
theorem pk_le {x y : Int32} {A B : Prop} (a b : Nat) (f : a ≤ b → A) (g : b < a → B) (hx : x = nI a := by rfl) (hy : y = nI b := by rfl) (ha : a < 2 ^ 31 := by omega) (hb : b < 2 ^ 31 := by omega) : (x ≤ y → A) ∧ (¬ x ≤ y → B) := by
  subst hx hy
  rw [nI_leI ha hb]
  exact ⟨f, fun z => g (by omega)⟩
theorem pk_lt {x y : Int32} {A B : Prop} (a b : Nat) (f : a < b → A) (g : b ≤ a → B) (hx : x = nI a := by rfl) (hy : y = nI b := by rfl) (ha : a < 2 ^ 31 := by omega) (hb : b < 2 ^ 31 := by omega) : (x < y → A) ∧ (¬ x < y → B) := by
  subst hx hy
  rw [nI_ltI ha hb]
  exact ⟨f, fun z => g (by omega)⟩
theorem pk_eq {x y : Int32} {A B : Prop} (a b : Nat) (f : a = b → A) (g : a ≠ b → B) (hx : x = nI a := by rfl) (hy : y = nI b := by rfl) (ha : a < 2 ^ 31 := by omega) (hb : b < 2 ^ 31 := by omega) : (x = y → A) ∧ (¬ x = y → B) := by
  subst hx hy
  rw [nI_eq ha hb]
  exact ⟨f, g⟩
theorem pk_in {x : Int32} (n N : Nat) (h : n < N) (hx : x = nI n := by rfl) (hN : N < 2 ^ 31 := by omega) : vp_in x N := by
  subst hx
  exact vp_in_nI h hN
theorem pk_cl {x : Int32} (n : Nat) (hx : x = nI n := by rfl) (h : n < 2 ^ 31 := by omega) : x.toNatClampNeg = n := by
  subst hx
  exact nI_clamp h
theorem pk_tn {n : Nat} (h : n < 2 ^ 32) : (nI n).toBitVec.toNat = n := Nat.mod_eq_of_lt h
theorem pk_and (x : Int32) {m : Int32} (k : Nat) (hm : m.toBitVec.toNat = 2 ^ k - 1) : x &&& m = nI (x.toBitVec.toNat % 2 ^ k) := by
  apply Int32.toBitVec_inj.mp
  apply BitVec.eq_of_toNat_eq
  rw [Int32.toBitVec_and, BitVec.toNat_and, hm, Nat.and_two_pow_sub_one_eq_mod]
  show _ = (BitVec.ofNat 32 _).toNat
  rw [BitVec.toNat_ofNat]
  exact (Nat.mod_eq_of_lt (Nat.lt_of_le_of_lt (Nat.mod_le _ _) x.toBitVec.isLt)).symm
theorem pk_andN {n : Nat} (h : n < 2 ^ 32) {m : Int32} (k : Nat) (hm : m.toBitVec.toNat = 2 ^ k - 1) : nI n &&& m = nI (n % 2 ^ k) := by
  rw [pk_and _ k hm, pk_tn h]
theorem pk_andE (x : Int32) {m : Int32} (k : Nat) (hm : m.toBitVec.toNat = 2 ^ k - 1) : ∃ j : Nat, j < 2 ^ k ∧ x &&& m = nI j := ⟨_, Nat.mod_lt _ (Nat.two_pow_pos k), pk_and x k hm⟩
theorem pk_andIn (x : Int32) {m : Int32} (k : Nat) (hm : m.toBitVec.toNat = 2 ^ k - 1) (hk : k ≤ 30) : vp_in (x &&& m) (2 ^ k) := by
  obtain ⟨j, hj, e⟩ := pk_andE x k hm
  rw [e]
  exact vp_in_nI hj (Nat.lt_of_le_of_lt (Nat.pow_le_pow_right (by decide) hk) (by decide))
theorem pk_shl (a s : Int32) (k : Nat) (hs : (s.toBitVec.smod 32).toNat = k) : (a <<< s).toBitVec.toNat = a.toBitVec.toNat * 2 ^ k % 2 ^ 32 := by
  show (a.toBitVec <<< (s.toBitVec.smod 32).toNat).toNat = _
  rw [hs, BitVec.toNat_shiftLeft, Nat.shiftLeft_eq]
theorem pk_shlN {n : Nat} (s : Int32) (k : Nat) (hs : (s.toBitVec.smod 32).toNat = k) (h : n * 2 ^ k < 2 ^ 32) : nI n <<< s = nI (n * 2 ^ k) := by
  apply Int32.toBitVec_inj.mp
  apply BitVec.eq_of_toNat_eq
  have hn : n < 2 ^ 32 := Nat.lt_of_le_of_lt (Nat.le_mul_of_pos_right n (Nat.two_pow_pos k)) h
  rw [pk_shl _ _ k hs, pk_tn hn, pk_tn h, Nat.mod_eq_of_lt h]
theorem pk_shr (a s : Int32) (k : Nat) (hs : (s.toBitVec.smod 32).toNat = k) : (a >>> s).toInt = a.toInt >>> k := by
  show (a.toBitVec.sshiftRight (s.toBitVec.smod 32).toNat).toInt = _
  rw [hs, BitVec.toInt_sshiftRight]
  rfl
theorem pk_shrN {n : Nat} (h : n < 2 ^ 31) (s : Int32) (k : Nat) (hs : (s.toBitVec.smod 32).toNat = k) : nI n >>> s = nI (n / 2 ^ k) := by
  apply Int32.toInt_inj.mp
  have h2 : n / 2 ^ k ≤ n := Nat.div_le_self _ _
  rw [pk_shr _ _ k hs, nI_toInt h, nI_toInt (by omega), Int.shiftRight_eq_div_pow]
  rfl
theorem pk_ushr (x s : Int32) (k : Nat) (hs : ((s.toUInt32 &&& Int32.toUInt32 31).toBitVec % 32).toNat = k) : (x.toUInt32 >>> (s.toUInt32 &&& Int32.toUInt32 31)).toInt32.toBitVec.toNat = x.toBitVec.toNat / 2 ^ k := by
  have e : (x.toUInt32 >>> (s.toUInt32 &&& Int32.toUInt32 31)).toInt32.toBitVec = x.toBitVec >>> k := by
    rw [← hs]
    exact UInt32.toBitVec_shiftRight _ _
  rw [e, BitVec.toNat_ushiftRight, Nat.shiftRight_eq_div_pow]
theorem pk_ushrN {n : Nat} (hn : n < 2 ^ 32) (s : Int32) (k : Nat) (hs : ((s.toUInt32 &&& Int32.toUInt32 31).toBitVec % 32).toNat = k) : ((nI n).toUInt32 >>> (s.toUInt32 &&& Int32.toUInt32 31)).toInt32 = nI (n / 2 ^ k) := by
  apply Int32.toBitVec_inj.mp
  apply BitVec.eq_of_toNat_eq
  rw [pk_ushr _ s k hs, pk_tn hn, pk_tn (Nat.lt_of_le_of_lt (Nat.div_le_self _ _) hn)]
theorem pk_nb (z : Int32) : narrow .byte (.int z.toInt8.toInt32) = .int z.toInt8.toInt32 := congrArg Value.int (by simp)
theorem pk_ns (z : Int32) : narrow .short (.int z.toInt16.toInt32) = .int z.toInt16.toInt32 := congrArg Value.int (by simp)
theorem pk_fb (r : Int32) : fits .byte (.int r.toInt8.toInt32) = true := by
  have ⟨a, b⟩ := lg_i2b_range r
  have h1 : (-128 : Int32).toInt = -128 := by decide
  have h2 : (127 : Int32).toInt = 127 := by decide
  simp only [fits, Bool.and_eq_true, decide_eq_true_eq, Int32.le_iff_toInt_le, h1, h2]
  omega
theorem pk_fs (r : Int32) : fits .short (.int r.toInt16.toInt32) = true := by
  have ⟨a, b⟩ := lg_i2s_range r
  have h1 : (-32768 : Int32).toInt = -32768 := by decide
  have h2 : (32767 : Int32).toInt = 32767 := by decide
  simp only [fits, Bool.and_eq_true, decide_eq_true_eq, Int32.le_iff_toInt_le, h1, h2]
  omega
theorem pk_charN {q : Nat} (hq : q < 65536) : narrow .char (.int (nI q)) = .int (nI q) ∧ fits .char (.int (nI q)) = true := by
  constructor
  · have e : (nI q).toUInt32.toUInt16.toUInt32.toInt32 = nI q := by
      apply Int32.toBitVec_inj.mp
      apply BitVec.eq_of_toNat_eq
      show (nI q).toUInt32.toUInt16.toUInt32.toNat = q % 2 ^ 32
      rw [UInt16.toNat_toUInt32, UInt32.toNat_toUInt16, show (nI q).toUInt32.toNat = q % 2 ^ 32 from rfl]
      omega
    exact congrArg Value.int e
  · have a : (0 : Int32) ≤ nI q := nI_pos' (by omega)
    have b : nI q ≤ 65535 := nI_le (b := 65535) (by omega) (by decide)
    show (decide ((0 : Int32) ≤ nI q) && decide (nI q ≤ 65535)) = true
    rw [decide_eq_true a, decide_eq_true b]
    rfl
theorem pk_char (x : Int32) : (x.toUInt32 % 65536).toInt32 = nI (x.toBitVec.toNat % 65536) := by
  apply Int32.toBitVec_inj.mp
  apply BitVec.eq_of_toNat_eq
  rw [pk_tn (by omega)]
  show (x.toUInt32 % 65536).toNat = _
  rw [UInt32.toNat_mod]
  rfl
theorem pk_nc (x : Int32) : narrow .char (.int (x.toUInt32 % 65536).toInt32) = .int (x.toUInt32 % 65536).toInt32 := by
  rw [pk_char]
  exact (pk_charN (Nat.mod_lt _ (by decide))).1
theorem pk_fc (x : Int32) : fits .char (.int (x.toUInt32 % 65536).toInt32) = true := by
  rw [pk_char]
  exact (pk_charN (Nat.mod_lt _ (by decide))).2
theorem pk_vb (z : Int32) : vp_nar .byte z.toInt8.toInt32 = z.toInt8.toInt32 := by rw [vp_nar_byte]; simp
theorem pk_vs (z : Int32) : vp_nar .short z.toInt16.toInt32 = z.toInt16.toInt32 := by rw [vp_nar_short]; simp
theorem pk_vc (z : Int32) : vp_nar .char (z.toUInt32 % 65536).toInt32 = (z.toUInt32 % 65536).toInt32 := Value.int.inj (pk_nc z)
theorem pk_lT {n : Nat} (h : n < 2 ^ 63) : (lN n).toInt = (n : Int) := lg_ofNat_toInt h
theorem pk_lLT {a b : Nat} (ha : a < 2 ^ 63) (hb : b < 2 ^ 63) : lN a < lN b ↔ a < b := by
  rw [Int64.lt_iff_toInt_lt, pk_lT ha, pk_lT hb]; omega
theorem pk_lLE {a b : Nat} (ha : a < 2 ^ 63) (hb : b < 2 ^ 63) : lN a ≤ lN b ↔ a ≤ b := by
  rw [Int64.le_iff_toInt_le, pk_lT ha, pk_lT hb]; omega
theorem pk_lEQ {a b : Nat} (ha : a < 2 ^ 63) (hb : b < 2 ^ 63) : lN a = lN b ↔ a = b := by
  rw [← Int64.toInt_inj, pk_lT ha, pk_lT hb]; omega
theorem pk_lOf {x : Int64} (h : ¬ x < 0) : ∃ k : Nat, k < 2 ^ 63 ∧ x = lN k := by
  rw [Int64.lt_iff_toInt_lt] at h
  have h0 : (0 : Int64).toInt = 0 := by decide
  have hx := Int64.toInt_lt x
  refine ⟨x.toInt.toNat, by omega, Int64.toInt_inj.mp ?_⟩
  rw [pk_lT (by omega)]
  omega
theorem pk_lDiv {a b : Nat} (ha : a < 2 ^ 63) (h0 : 0 < b) (hb : b < 2 ^ 63) : lN a / lN b = lN (a / b) := by
  apply Int64.toInt_inj.mp
  rw [lg_ldiv_nonneg (by rw [pk_lT ha]; omega) (by rw [pk_lT hb]; omega), pk_lT ha, pk_lT hb, pk_lT (Nat.lt_of_le_of_lt (Nat.div_le_self a b) ha)]
  rfl
theorem pk_lRem {a b : Nat} (ha : a < 2 ^ 63) (h0 : 0 < b) (hb : b < 2 ^ 63) : lN a - lN a / lN b * lN b = lN (a % b) := by
  rw [pk_lDiv ha h0 hb, lN_mul, lN_sub (Nat.div_mul_le_self a b)]
  exact congrArg lN (by have := Nat.div_add_mod' a b; omega)
theorem pk_loop {σ : Type} (W : Nat → Nat → σ → Prop) (I : Nat → σ → Prop) (e i0 : Nat) (s : σ) (hi : i0 ≤ e) (h0 : I i0 s) (hx : ∀ n s, I e s → W (n + 1) e s)
    (hs : ∀ n i s, i < e → I i s → (∀ s', I (i + 1) s' → W n (i + 1) s') → W (n + 1) i s) : ∃ n, W n i0 s :=
  ⟨e + 1, loop_i W I e hx hs (e + 1) i0 s hi (by omega) h0⟩
theorem pk_loopD {σ : Type} (W : Nat → Nat → σ → Prop) (I : Nat → σ → Prop) (hx : ∀ n s, I 0 s → W (n + 1) 0 s)
    (hs : ∀ n i s, I (i + 1) s → (∀ s', I i s' → W n i s') → W (n + 1) (i + 1) s) : ∀ (e : Nat) (s : σ), I e s → W (e + 1) e s := by
  intro e
  induction e with
  | zero => exact fun s h => hx 0 s h
  | succ e ih => exact fun s h => hs (e + 1) e s h (fun s' h' => ih s' h')
theorem lp1 {A1 : Type} (W : Nat → A1 → Prop) (I : A1 → Prop) (μ : A1 → Nat) (hs : ∀ (n : Nat) (a1 : A1), I a1 → (∀ (b1 : A1), I b1 → μ b1 < μ a1 → W n b1) → W (n + 1) a1) (a1 : A1) (h : I a1) : ∃ n, W n a1 :=
  loop_m (σ := A1) (fun n s => W n s) (fun s => I s) (fun s => μ s) (fun n s hI hk => hs n s hI (fun b1 h9 hm => hk b1 h9 hm)) a1 h
theorem lp2 {A1 A2 : Type} (W : Nat → A1 → A2 → Prop) (I : A1 → A2 → Prop) (μ : A1 → A2 → Nat) (hs : ∀ (n : Nat) (a1 : A1) (a2 : A2), I a1 a2 → (∀ (b1 : A1) (b2 : A2), I b1 b2 → μ b1 b2 < μ a1 a2 → W n b1 b2) → W (n + 1) a1 a2) (a1 : A1) (a2 : A2) (h : I a1 a2) : ∃ n, W n a1 a2 :=
  loop_m (σ := A1 × A2) (fun n s => W n s.1 s.2) (fun s => I s.1 s.2) (fun s => μ s.1 s.2) (fun n s hI hk => hs n s.1 s.2 hI (fun b1 b2 h9 hm => hk (b1, b2) h9 hm)) (a1, a2) h
theorem lp3 {A1 A2 A3 : Type} (W : Nat → A1 → A2 → A3 → Prop) (I : A1 → A2 → A3 → Prop) (μ : A1 → A2 → A3 → Nat) (hs : ∀ (n : Nat) (a1 : A1) (a2 : A2) (a3 : A3), I a1 a2 a3 → (∀ (b1 : A1) (b2 : A2) (b3 : A3), I b1 b2 b3 → μ b1 b2 b3 < μ a1 a2 a3 → W n b1 b2 b3) → W (n + 1) a1 a2 a3) (a1 : A1) (a2 : A2) (a3 : A3) (h : I a1 a2 a3) : ∃ n, W n a1 a2 a3 :=
  loop_m (σ := A1 × A2 × A3) (fun n s => W n s.1 s.2.1 s.2.2) (fun s => I s.1 s.2.1 s.2.2) (fun s => μ s.1 s.2.1 s.2.2) (fun n s hI hk => hs n s.1 s.2.1 s.2.2 hI (fun b1 b2 b3 h9 hm => hk (b1, b2, b3) h9 hm)) (a1, a2, a3) h
theorem lp4 {A1 A2 A3 A4 : Type} (W : Nat → A1 → A2 → A3 → A4 → Prop) (I : A1 → A2 → A3 → A4 → Prop) (μ : A1 → A2 → A3 → A4 → Nat) (hs : ∀ (n : Nat) (a1 : A1) (a2 : A2) (a3 : A3) (a4 : A4), I a1 a2 a3 a4 → (∀ (b1 : A1) (b2 : A2) (b3 : A3) (b4 : A4), I b1 b2 b3 b4 → μ b1 b2 b3 b4 < μ a1 a2 a3 a4 → W n b1 b2 b3 b4) → W (n + 1) a1 a2 a3 a4) (a1 : A1) (a2 : A2) (a3 : A3) (a4 : A4) (h : I a1 a2 a3 a4) : ∃ n, W n a1 a2 a3 a4 :=
  loop_m (σ := A1 × A2 × A3 × A4) (fun n s => W n s.1 s.2.1 s.2.2.1 s.2.2.2) (fun s => I s.1 s.2.1 s.2.2.1 s.2.2.2) (fun s => μ s.1 s.2.1 s.2.2.1 s.2.2.2) (fun n s hI hk => hs n s.1 s.2.1 s.2.2.1 s.2.2.2 hI (fun b1 b2 b3 b4 h9 hm => hk (b1, b2, b3, b4) h9 hm)) (a1, a2, a3, a4) h
theorem lp5 {A1 A2 A3 A4 A5 : Type} (W : Nat → A1 → A2 → A3 → A4 → A5 → Prop) (I : A1 → A2 → A3 → A4 → A5 → Prop) (μ : A1 → A2 → A3 → A4 → A5 → Nat) (hs : ∀ (n : Nat) (a1 : A1) (a2 : A2) (a3 : A3) (a4 : A4) (a5 : A5), I a1 a2 a3 a4 a5 → (∀ (b1 : A1) (b2 : A2) (b3 : A3) (b4 : A4) (b5 : A5), I b1 b2 b3 b4 b5 → μ b1 b2 b3 b4 b5 < μ a1 a2 a3 a4 a5 → W n b1 b2 b3 b4 b5) → W (n + 1) a1 a2 a3 a4 a5) (a1 : A1) (a2 : A2) (a3 : A3) (a4 : A4) (a5 : A5) (h : I a1 a2 a3 a4 a5) : ∃ n, W n a1 a2 a3 a4 a5 :=
  loop_m (σ := A1 × A2 × A3 × A4 × A5) (fun n s => W n s.1 s.2.1 s.2.2.1 s.2.2.2.1 s.2.2.2.2) (fun s => I s.1 s.2.1 s.2.2.1 s.2.2.2.1 s.2.2.2.2) (fun s => μ s.1 s.2.1 s.2.2.1 s.2.2.2.1 s.2.2.2.2) (fun n s hI hk => hs n s.1 s.2.1 s.2.2.1 s.2.2.2.1 s.2.2.2.2 hI (fun b1 b2 b3 b4 b5 h9 hm => hk (b1, b2, b3, b4, b5) h9 hm)) (a1, a2, a3, a4, a5) h
theorem lp6 {A1 A2 A3 A4 A5 A6 : Type} (W : Nat → A1 → A2 → A3 → A4 → A5 → A6 → Prop) (I : A1 → A2 → A3 → A4 → A5 → A6 → Prop) (μ : A1 → A2 → A3 → A4 → A5 → A6 → Nat) (hs : ∀ (n : Nat) (a1 : A1) (a2 : A2) (a3 : A3) (a4 : A4) (a5 : A5) (a6 : A6), I a1 a2 a3 a4 a5 a6 → (∀ (b1 : A1) (b2 : A2) (b3 : A3) (b4 : A4) (b5 : A5) (b6 : A6), I b1 b2 b3 b4 b5 b6 → μ b1 b2 b3 b4 b5 b6 < μ a1 a2 a3 a4 a5 a6 → W n b1 b2 b3 b4 b5 b6) → W (n + 1) a1 a2 a3 a4 a5 a6) (a1 : A1) (a2 : A2) (a3 : A3) (a4 : A4) (a5 : A5) (a6 : A6) (h : I a1 a2 a3 a4 a5 a6) : ∃ n, W n a1 a2 a3 a4 a5 a6 :=
  loop_m (σ := A1 × A2 × A3 × A4 × A5 × A6) (fun n s => W n s.1 s.2.1 s.2.2.1 s.2.2.2.1 s.2.2.2.2.1 s.2.2.2.2.2) (fun s => I s.1 s.2.1 s.2.2.1 s.2.2.2.1 s.2.2.2.2.1 s.2.2.2.2.2) (fun s => μ s.1 s.2.1 s.2.2.1 s.2.2.2.1 s.2.2.2.2.1 s.2.2.2.2.2) (fun n s hI hk => hs n s.1 s.2.1 s.2.2.1 s.2.2.2.1 s.2.2.2.2.1 s.2.2.2.2.2 hI (fun b1 b2 b3 b4 b5 b6 h9 hm => hk (b1, b2, b3, b4, b5, b6) h9 hm)) (a1, a2, a3, a4, a5, a6) h
theorem lp7 {A1 A2 A3 A4 A5 A6 A7 : Type} (W : Nat → A1 → A2 → A3 → A4 → A5 → A6 → A7 → Prop) (I : A1 → A2 → A3 → A4 → A5 → A6 → A7 → Prop) (μ : A1 → A2 → A3 → A4 → A5 → A6 → A7 → Nat) (hs : ∀ (n : Nat) (a1 : A1) (a2 : A2) (a3 : A3) (a4 : A4) (a5 : A5) (a6 : A6) (a7 : A7), I a1 a2 a3 a4 a5 a6 a7 → (∀ (b1 : A1) (b2 : A2) (b3 : A3) (b4 : A4) (b5 : A5) (b6 : A6) (b7 : A7), I b1 b2 b3 b4 b5 b6 b7 → μ b1 b2 b3 b4 b5 b6 b7 < μ a1 a2 a3 a4 a5 a6 a7 → W n b1 b2 b3 b4 b5 b6 b7) → W (n + 1) a1 a2 a3 a4 a5 a6 a7) (a1 : A1) (a2 : A2) (a3 : A3) (a4 : A4) (a5 : A5) (a6 : A6) (a7 : A7) (h : I a1 a2 a3 a4 a5 a6 a7) : ∃ n, W n a1 a2 a3 a4 a5 a6 a7 :=
  loop_m (σ := A1 × A2 × A3 × A4 × A5 × A6 × A7) (fun n s => W n s.1 s.2.1 s.2.2.1 s.2.2.2.1 s.2.2.2.2.1 s.2.2.2.2.2.1 s.2.2.2.2.2.2) (fun s => I s.1 s.2.1 s.2.2.1 s.2.2.2.1 s.2.2.2.2.1 s.2.2.2.2.2.1 s.2.2.2.2.2.2) (fun s => μ s.1 s.2.1 s.2.2.1 s.2.2.2.1 s.2.2.2.2.1 s.2.2.2.2.2.1 s.2.2.2.2.2.2) (fun n s hI hk => hs n s.1 s.2.1 s.2.2.1 s.2.2.2.1 s.2.2.2.2.1 s.2.2.2.2.2.1 s.2.2.2.2.2.2 hI (fun b1 b2 b3 b4 b5 b6 b7 h9 hm => hk (b1, b2, b3, b4, b5, b6, b7) h9 hm)) (a1, a2, a3, a4, a5, a6, a7) h
theorem lp8 {A1 A2 A3 A4 A5 A6 A7 A8 : Type} (W : Nat → A1 → A2 → A3 → A4 → A5 → A6 → A7 → A8 → Prop) (I : A1 → A2 → A3 → A4 → A5 → A6 → A7 → A8 → Prop) (μ : A1 → A2 → A3 → A4 → A5 → A6 → A7 → A8 → Nat) (hs : ∀ (n : Nat) (a1 : A1) (a2 : A2) (a3 : A3) (a4 : A4) (a5 : A5) (a6 : A6) (a7 : A7) (a8 : A8), I a1 a2 a3 a4 a5 a6 a7 a8 → (∀ (b1 : A1) (b2 : A2) (b3 : A3) (b4 : A4) (b5 : A5) (b6 : A6) (b7 : A7) (b8 : A8), I b1 b2 b3 b4 b5 b6 b7 b8 → μ b1 b2 b3 b4 b5 b6 b7 b8 < μ a1 a2 a3 a4 a5 a6 a7 a8 → W n b1 b2 b3 b4 b5 b6 b7 b8) → W (n + 1) a1 a2 a3 a4 a5 a6 a7 a8) (a1 : A1) (a2 : A2) (a3 : A3) (a4 : A4) (a5 : A5) (a6 : A6) (a7 : A7) (a8 : A8) (h : I a1 a2 a3 a4 a5 a6 a7 a8) : ∃ n, W n a1 a2 a3 a4 a5 a6 a7 a8 :=
  loop_m (σ := A1 × A2 × A3 × A4 × A5 × A6 × A7 × A8) (fun n s => W n s.1 s.2.1 s.2.2.1 s.2.2.2.1 s.2.2.2.2.1 s.2.2.2.2.2.1 s.2.2.2.2.2.2.1 s.2.2.2.2.2.2.2) (fun s => I s.1 s.2.1 s.2.2.1 s.2.2.2.1 s.2.2.2.2.1 s.2.2.2.2.2.1 s.2.2.2.2.2.2.1 s.2.2.2.2.2.2.2) (fun s => μ s.1 s.2.1 s.2.2.1 s.2.2.2.1 s.2.2.2.2.1 s.2.2.2.2.2.1 s.2.2.2.2.2.2.1 s.2.2.2.2.2.2.2) (fun n s hI hk => hs n s.1 s.2.1 s.2.2.1 s.2.2.2.1 s.2.2.2.2.1 s.2.2.2.2.2.1 s.2.2.2.2.2.2.1 s.2.2.2.2.2.2.2 hI (fun b1 b2 b3 b4 b5 b6 b7 b8 h9 hm => hk (b1, b2, b3, b4, b5, b6, b7, b8) h9 hm)) (a1, a2, a3, a4, a5, a6, a7, a8) h
theorem lp9 {A1 A2 A3 A4 A5 A6 A7 A8 A9 : Type} (W : Nat → A1 → A2 → A3 → A4 → A5 → A6 → A7 → A8 → A9 → Prop) (I : A1 → A2 → A3 → A4 → A5 → A6 → A7 → A8 → A9 → Prop) (μ : A1 → A2 → A3 → A4 → A5 → A6 → A7 → A8 → A9 → Nat) (hs : ∀ (n : Nat) (a1 : A1) (a2 : A2) (a3 : A3) (a4 : A4) (a5 : A5) (a6 : A6) (a7 : A7) (a8 : A8) (a9 : A9), I a1 a2 a3 a4 a5 a6 a7 a8 a9 → (∀ (b1 : A1) (b2 : A2) (b3 : A3) (b4 : A4) (b5 : A5) (b6 : A6) (b7 : A7) (b8 : A8) (b9 : A9), I b1 b2 b3 b4 b5 b6 b7 b8 b9 → μ b1 b2 b3 b4 b5 b6 b7 b8 b9 < μ a1 a2 a3 a4 a5 a6 a7 a8 a9 → W n b1 b2 b3 b4 b5 b6 b7 b8 b9) → W (n + 1) a1 a2 a3 a4 a5 a6 a7 a8 a9) (a1 : A1) (a2 : A2) (a3 : A3) (a4 : A4) (a5 : A5) (a6 : A6) (a7 : A7) (a8 : A8) (a9 : A9) (h : I a1 a2 a3 a4 a5 a6 a7 a8 a9) : ∃ n, W n a1 a2 a3 a4 a5 a6 a7 a8 a9 :=
  loop_m (σ := A1 × A2 × A3 × A4 × A5 × A6 × A7 × A8 × A9) (fun n s => W n s.1 s.2.1 s.2.2.1 s.2.2.2.1 s.2.2.2.2.1 s.2.2.2.2.2.1 s.2.2.2.2.2.2.1 s.2.2.2.2.2.2.2.1 s.2.2.2.2.2.2.2.2) (fun s => I s.1 s.2.1 s.2.2.1 s.2.2.2.1 s.2.2.2.2.1 s.2.2.2.2.2.1 s.2.2.2.2.2.2.1 s.2.2.2.2.2.2.2.1 s.2.2.2.2.2.2.2.2) (fun s => μ s.1 s.2.1 s.2.2.1 s.2.2.2.1 s.2.2.2.2.1 s.2.2.2.2.2.1 s.2.2.2.2.2.2.1 s.2.2.2.2.2.2.2.1 s.2.2.2.2.2.2.2.2) (fun n s hI hk => hs n s.1 s.2.1 s.2.2.1 s.2.2.2.1 s.2.2.2.2.1 s.2.2.2.2.2.1 s.2.2.2.2.2.2.1 s.2.2.2.2.2.2.2.1 s.2.2.2.2.2.2.2.2 hI (fun b1 b2 b3 b4 b5 b6 b7 b8 b9 h9 hm => hk (b1, b2, b3, b4, b5, b6, b7, b8, b9) h9 hm)) (a1, a2, a3, a4, a5, a6, a7, a8, a9) h
theorem lp10 {A1 A2 A3 A4 A5 A6 A7 A8 A9 A10 : Type} (W : Nat → A1 → A2 → A3 → A4 → A5 → A6 → A7 → A8 → A9 → A10 → Prop) (I : A1 → A2 → A3 → A4 → A5 → A6 → A7 → A8 → A9 → A10 → Prop) (μ : A1 → A2 → A3 → A4 → A5 → A6 → A7 → A8 → A9 → A10 → Nat) (hs : ∀ (n : Nat) (a1 : A1) (a2 : A2) (a3 : A3) (a4 : A4) (a5 : A5) (a6 : A6) (a7 : A7) (a8 : A8) (a9 : A9) (a10 : A10), I a1 a2 a3 a4 a5 a6 a7 a8 a9 a10 → (∀ (b1 : A1) (b2 : A2) (b3 : A3) (b4 : A4) (b5 : A5) (b6 : A6) (b7 : A7) (b8 : A8) (b9 : A9) (b10 : A10), I b1 b2 b3 b4 b5 b6 b7 b8 b9 b10 → μ b1 b2 b3 b4 b5 b6 b7 b8 b9 b10 < μ a1 a2 a3 a4 a5 a6 a7 a8 a9 a10 → W n b1 b2 b3 b4 b5 b6 b7 b8 b9 b10) → W (n + 1) a1 a2 a3 a4 a5 a6 a7 a8 a9 a10) (a1 : A1) (a2 : A2) (a3 : A3) (a4 : A4) (a5 : A5) (a6 : A6) (a7 : A7) (a8 : A8) (a9 : A9) (a10 : A10) (h : I a1 a2 a3 a4 a5 a6 a7 a8 a9 a10) : ∃ n, W n a1 a2 a3 a4 a5 a6 a7 a8 a9 a10 :=
  loop_m (σ := A1 × A2 × A3 × A4 × A5 × A6 × A7 × A8 × A9 × A10) (fun n s => W n s.1 s.2.1 s.2.2.1 s.2.2.2.1 s.2.2.2.2.1 s.2.2.2.2.2.1 s.2.2.2.2.2.2.1 s.2.2.2.2.2.2.2.1 s.2.2.2.2.2.2.2.2.1 s.2.2.2.2.2.2.2.2.2) (fun s => I s.1 s.2.1 s.2.2.1 s.2.2.2.1 s.2.2.2.2.1 s.2.2.2.2.2.1 s.2.2.2.2.2.2.1 s.2.2.2.2.2.2.2.1 s.2.2.2.2.2.2.2.2.1 s.2.2.2.2.2.2.2.2.2) (fun s => μ s.1 s.2.1 s.2.2.1 s.2.2.2.1 s.2.2.2.2.1 s.2.2.2.2.2.1 s.2.2.2.2.2.2.1 s.2.2.2.2.2.2.2.1 s.2.2.2.2.2.2.2.2.1 s.2.2.2.2.2.2.2.2.2) (fun n s hI hk => hs n s.1 s.2.1 s.2.2.1 s.2.2.2.1 s.2.2.2.2.1 s.2.2.2.2.2.1 s.2.2.2.2.2.2.1 s.2.2.2.2.2.2.2.1 s.2.2.2.2.2.2.2.2.1 s.2.2.2.2.2.2.2.2.2 hI (fun b1 b2 b3 b4 b5 b6 b7 b8 b9 b10 h9 hm => hk (b1, b2, b3, b4, b5, b6, b7, b8, b9, b10) h9 hm)) (a1, a2, a3, a4, a5, a6, a7, a8, a9, a10) h
theorem lp11 {A1 A2 A3 A4 A5 A6 A7 A8 A9 A10 A11 : Type} (W : Nat → A1 → A2 → A3 → A4 → A5 → A6 → A7 → A8 → A9 → A10 → A11 → Prop) (I : A1 → A2 → A3 → A4 → A5 → A6 → A7 → A8 → A9 → A10 → A11 → Prop) (μ : A1 → A2 → A3 → A4 → A5 → A6 → A7 → A8 → A9 → A10 → A11 → Nat) (hs : ∀ (n : Nat) (a1 : A1) (a2 : A2) (a3 : A3) (a4 : A4) (a5 : A5) (a6 : A6) (a7 : A7) (a8 : A8) (a9 : A9) (a10 : A10) (a11 : A11), I a1 a2 a3 a4 a5 a6 a7 a8 a9 a10 a11 → (∀ (b1 : A1) (b2 : A2) (b3 : A3) (b4 : A4) (b5 : A5) (b6 : A6) (b7 : A7) (b8 : A8) (b9 : A9) (b10 : A10) (b11 : A11), I b1 b2 b3 b4 b5 b6 b7 b8 b9 b10 b11 → μ b1 b2 b3 b4 b5 b6 b7 b8 b9 b10 b11 < μ a1 a2 a3 a4 a5 a6 a7 a8 a9 a10 a11 → W n b1 b2 b3 b4 b5 b6 b7 b8 b9 b10 b11) → W (n + 1) a1 a2 a3 a4 a5 a6 a7 a8 a9 a10 a11) (a1 : A1) (a2 : A2) (a3 : A3) (a4 : A4) (a5 : A5) (a6 : A6) (a7 : A7) (a8 : A8) (a9 : A9) (a10 : A10) (a11 : A11) (h : I a1 a2 a3 a4 a5 a6 a7 a8 a9 a10 a11) : ∃ n, W n a1 a2 a3 a4 a5 a6 a7 a8 a9 a10 a11 :=
  loop_m (σ := A1 × A2 × A3 × A4 × A5 × A6 × A7 × A8 × A9 × A10 × A11) (fun n s => W n s.1 s.2.1 s.2.2.1 s.2.2.2.1 s.2.2.2.2.1 s.2.2.2.2.2.1 s.2.2.2.2.2.2.1 s.2.2.2.2.2.2.2.1 s.2.2.2.2.2.2.2.2.1 s.2.2.2.2.2.2.2.2.2.1 s.2.2.2.2.2.2.2.2.2.2) (fun s => I s.1 s.2.1 s.2.2.1 s.2.2.2.1 s.2.2.2.2.1 s.2.2.2.2.2.1 s.2.2.2.2.2.2.1 s.2.2.2.2.2.2.2.1 s.2.2.2.2.2.2.2.2.1 s.2.2.2.2.2.2.2.2.2.1 s.2.2.2.2.2.2.2.2.2.2) (fun s => μ s.1 s.2.1 s.2.2.1 s.2.2.2.1 s.2.2.2.2.1 s.2.2.2.2.2.1 s.2.2.2.2.2.2.1 s.2.2.2.2.2.2.2.1 s.2.2.2.2.2.2.2.2.1 s.2.2.2.2.2.2.2.2.2.1 s.2.2.2.2.2.2.2.2.2.2) (fun n s hI hk => hs n s.1 s.2.1 s.2.2.1 s.2.2.2.1 s.2.2.2.2.1 s.2.2.2.2.2.1 s.2.2.2.2.2.2.1 s.2.2.2.2.2.2.2.1 s.2.2.2.2.2.2.2.2.1 s.2.2.2.2.2.2.2.2.2.1 s.2.2.2.2.2.2.2.2.2.2 hI (fun b1 b2 b3 b4 b5 b6 b7 b8 b9 b10 b11 h9 hm => hk (b1, b2, b3, b4, b5, b6, b7, b8, b9, b10, b11) h9 hm)) (a1, a2, a3, a4, a5, a6, a7, a8, a9, a10, a11) h
theorem lp12 {A1 A2 A3 A4 A5 A6 A7 A8 A9 A10 A11 A12 : Type} (W : Nat → A1 → A2 → A3 → A4 → A5 → A6 → A7 → A8 → A9 → A10 → A11 → A12 → Prop) (I : A1 → A2 → A3 → A4 → A5 → A6 → A7 → A8 → A9 → A10 → A11 → A12 → Prop) (μ : A1 → A2 → A3 → A4 → A5 → A6 → A7 → A8 → A9 → A10 → A11 → A12 → Nat) (hs : ∀ (n : Nat) (a1 : A1) (a2 : A2) (a3 : A3) (a4 : A4) (a5 : A5) (a6 : A6) (a7 : A7) (a8 : A8) (a9 : A9) (a10 : A10) (a11 : A11) (a12 : A12), I a1 a2 a3 a4 a5 a6 a7 a8 a9 a10 a11 a12 → (∀ (b1 : A1) (b2 : A2) (b3 : A3) (b4 : A4) (b5 : A5) (b6 : A6) (b7 : A7) (b8 : A8) (b9 : A9) (b10 : A10) (b11 : A11) (b12 : A12), I b1 b2 b3 b4 b5 b6 b7 b8 b9 b10 b11 b12 → μ b1 b2 b3 b4 b5 b6 b7 b8 b9 b10 b11 b12 < μ a1 a2 a3 a4 a5 a6 a7 a8 a9 a10 a11 a12 → W n b1 b2 b3 b4 b5 b6 b7 b8 b9 b10 b11 b12) → W (n + 1) a1 a2 a3 a4 a5 a6 a7 a8 a9 a10 a11 a12) (a1 : A1) (a2 : A2) (a3 : A3) (a4 : A4) (a5 : A5) (a6 : A6) (a7 : A7) (a8 : A8) (a9 : A9) (a10 : A10) (a11 : A11) (a12 : A12) (h : I a1 a2 a3 a4 a5 a6 a7 a8 a9 a10 a11 a12) : ∃ n, W n a1 a2 a3 a4 a5 a6 a7 a8 a9 a10 a11 a12 :=
  loop_m (σ := A1 × A2 × A3 × A4 × A5 × A6 × A7 × A8 × A9 × A10 × A11 × A12) (fun n s => W n s.1 s.2.1 s.2.2.1 s.2.2.2.1 s.2.2.2.2.1 s.2.2.2.2.2.1 s.2.2.2.2.2.2.1 s.2.2.2.2.2.2.2.1 s.2.2.2.2.2.2.2.2.1 s.2.2.2.2.2.2.2.2.2.1 s.2.2.2.2.2.2.2.2.2.2.1 s.2.2.2.2.2.2.2.2.2.2.2) (fun s => I s.1 s.2.1 s.2.2.1 s.2.2.2.1 s.2.2.2.2.1 s.2.2.2.2.2.1 s.2.2.2.2.2.2.1 s.2.2.2.2.2.2.2.1 s.2.2.2.2.2.2.2.2.1 s.2.2.2.2.2.2.2.2.2.1 s.2.2.2.2.2.2.2.2.2.2.1 s.2.2.2.2.2.2.2.2.2.2.2) (fun s => μ s.1 s.2.1 s.2.2.1 s.2.2.2.1 s.2.2.2.2.1 s.2.2.2.2.2.1 s.2.2.2.2.2.2.1 s.2.2.2.2.2.2.2.1 s.2.2.2.2.2.2.2.2.1 s.2.2.2.2.2.2.2.2.2.1 s.2.2.2.2.2.2.2.2.2.2.1 s.2.2.2.2.2.2.2.2.2.2.2) (fun n s hI hk => hs n s.1 s.2.1 s.2.2.1 s.2.2.2.1 s.2.2.2.2.1 s.2.2.2.2.2.1 s.2.2.2.2.2.2.1 s.2.2.2.2.2.2.2.1 s.2.2.2.2.2.2.2.2.1 s.2.2.2.2.2.2.2.2.2.1 s.2.2.2.2.2.2.2.2.2.2.1 s.2.2.2.2.2.2.2.2.2.2.2 hI (fun b1 b2 b3 b4 b5 b6 b7 b8 b9 b10 b11 b12 h9 hm => hk (b1, b2, b3, b4, b5, b6, b7, b8, b9, b10, b11, b12) h9 hm)) (a1, a2, a3, a4, a5, a6, a7, a8, a9, a10, a11, a12) h
theorem lp13 {A1 A2 A3 A4 A5 A6 A7 A8 A9 A10 A11 A12 A13 : Type} (W : Nat → A1 → A2 → A3 → A4 → A5 → A6 → A7 → A8 → A9 → A10 → A11 → A12 → A13 → Prop) (I : A1 → A2 → A3 → A4 → A5 → A6 → A7 → A8 → A9 → A10 → A11 → A12 → A13 → Prop) (μ : A1 → A2 → A3 → A4 → A5 → A6 → A7 → A8 → A9 → A10 → A11 → A12 → A13 → Nat) (hs : ∀ (n : Nat) (a1 : A1) (a2 : A2) (a3 : A3) (a4 : A4) (a5 : A5) (a6 : A6) (a7 : A7) (a8 : A8) (a9 : A9) (a10 : A10) (a11 : A11) (a12 : A12) (a13 : A13), I a1 a2 a3 a4 a5 a6 a7 a8 a9 a10 a11 a12 a13 → (∀ (b1 : A1) (b2 : A2) (b3 : A3) (b4 : A4) (b5 : A5) (b6 : A6) (b7 : A7) (b8 : A8) (b9 : A9) (b10 : A10) (b11 : A11) (b12 : A12) (b13 : A13), I b1 b2 b3 b4 b5 b6 b7 b8 b9 b10 b11 b12 b13 → μ b1 b2 b3 b4 b5 b6 b7 b8 b9 b10 b11 b12 b13 < μ a1 a2 a3 a4 a5 a6 a7 a8 a9 a10 a11 a12 a13 → W n b1 b2 b3 b4 b5 b6 b7 b8 b9 b10 b11 b12 b13) → W (n + 1) a1 a2 a3 a4 a5 a6 a7 a8 a9 a10 a11 a12 a13) (a1 : A1) (a2 : A2) (a3 : A3) (a4 : A4) (a5 : A5) (a6 : A6) (a7 : A7) (a8 : A8) (a9 : A9) (a10 : A10) (a11 : A11) (a12 : A12) (a13 : A13) (h : I a1 a2 a3 a4 a5 a6 a7 a8 a9 a10 a11 a12 a13) : ∃ n, W n a1 a2 a3 a4 a5 a6 a7 a8 a9 a10 a11 a12 a13 :=
  loop_m (σ := A1 × A2 × A3 × A4 × A5 × A6 × A7 × A8 × A9 × A10 × A11 × A12 × A13) (fun n s => W n s.1 s.2.1 s.2.2.1 s.2.2.2.1 s.2.2.2.2.1 s.2.2.2.2.2.1 s.2.2.2.2.2.2.1 s.2.2.2.2.2.2.2.1 s.2.2.2.2.2.2.2.2.1 s.2.2.2.2.2.2.2.2.2.1 s.2.2.2.2.2.2.2.2.2.2.1 s.2.2.2.2.2.2.2.2.2.2.2.1 s.2.2.2.2.2.2.2.2.2.2.2.2) (fun s => I s.1 s.2.1 s.2.2.1 s.2.2.2.1 s.2.2.2.2.1 s.2.2.2.2.2.1 s.2.2.2.2.2.2.1 s.2.2.2.2.2.2.2.1 s.2.2.2.2.2.2.2.2.1 s.2.2.2.2.2.2.2.2.2.1 s.2.2.2.2.2.2.2.2.2.2.1 s.2.2.2.2.2.2.2.2.2.2.2.1 s.2.2.2.2.2.2.2.2.2.2.2.2) (fun s => μ s.1 s.2.1 s.2.2.1 s.2.2.2.1 s.2.2.2.2.1 s.2.2.2.2.2.1 s.2.2.2.2.2.2.1 s.2.2.2.2.2.2.2.1 s.2.2.2.2.2.2.2.2.1 s.2.2.2.2.2.2.2.2.2.1 s.2.2.2.2.2.2.2.2.2.2.1 s.2.2.2.2.2.2.2.2.2.2.2.1 s.2.2.2.2.2.2.2.2.2.2.2.2) (fun n s hI hk => hs n s.1 s.2.1 s.2.2.1 s.2.2.2.1 s.2.2.2.2.1 s.2.2.2.2.2.1 s.2.2.2.2.2.2.1 s.2.2.2.2.2.2.2.1 s.2.2.2.2.2.2.2.2.1 s.2.2.2.2.2.2.2.2.2.1 s.2.2.2.2.2.2.2.2.2.2.1 s.2.2.2.2.2.2.2.2.2.2.2.1 s.2.2.2.2.2.2.2.2.2.2.2.2 hI (fun b1 b2 b3 b4 b5 b6 b7 b8 b9 b10 b11 b12 b13 h9 hm => hk (b1, b2, b3, b4, b5, b6, b7, b8, b9, b10, b11, b12, b13) h9 hm)) (a1, a2, a3, a4, a5, a6, a7, a8, a9, a10, a11, a12, a13) h
theorem lp14 {A1 A2 A3 A4 A5 A6 A7 A8 A9 A10 A11 A12 A13 A14 : Type} (W : Nat → A1 → A2 → A3 → A4 → A5 → A6 → A7 → A8 → A9 → A10 → A11 → A12 → A13 → A14 → Prop) (I : A1 → A2 → A3 → A4 → A5 → A6 → A7 → A8 → A9 → A10 → A11 → A12 → A13 → A14 → Prop) (μ : A1 → A2 → A3 → A4 → A5 → A6 → A7 → A8 → A9 → A10 → A11 → A12 → A13 → A14 → Nat) (hs : ∀ (n : Nat) (a1 : A1) (a2 : A2) (a3 : A3) (a4 : A4) (a5 : A5) (a6 : A6) (a7 : A7) (a8 : A8) (a9 : A9) (a10 : A10) (a11 : A11) (a12 : A12) (a13 : A13) (a14 : A14), I a1 a2 a3 a4 a5 a6 a7 a8 a9 a10 a11 a12 a13 a14 → (∀ (b1 : A1) (b2 : A2) (b3 : A3) (b4 : A4) (b5 : A5) (b6 : A6) (b7 : A7) (b8 : A8) (b9 : A9) (b10 : A10) (b11 : A11) (b12 : A12) (b13 : A13) (b14 : A14), I b1 b2 b3 b4 b5 b6 b7 b8 b9 b10 b11 b12 b13 b14 → μ b1 b2 b3 b4 b5 b6 b7 b8 b9 b10 b11 b12 b13 b14 < μ a1 a2 a3 a4 a5 a6 a7 a8 a9 a10 a11 a12 a13 a14 → W n b1 b2 b3 b4 b5 b6 b7 b8 b9 b10 b11 b12 b13 b14) → W (n + 1) a1 a2 a3 a4 a5 a6 a7 a8 a9 a10 a11 a12 a13 a14) (a1 : A1) (a2 : A2) (a3 : A3) (a4 : A4) (a5 : A5) (a6 : A6) (a7 : A7) (a8 : A8) (a9 : A9) (a10 : A10) (a11 : A11) (a12 : A12) (a13 : A13) (a14 : A14) (h : I a1 a2 a3 a4 a5 a6 a7 a8 a9 a10 a11 a12 a13 a14) : ∃ n, W n a1 a2 a3 a4 a5 a6 a7 a8 a9 a10 a11 a12 a13 a14 :=
  loop_m (σ := A1 × A2 × A3 × A4 × A5 × A6 × A7 × A8 × A9 × A10 × A11 × A12 × A13 × A14) (fun n s => W n s.1 s.2.1 s.2.2.1 s.2.2.2.1 s.2.2.2.2.1 s.2.2.2.2.2.1 s.2.2.2.2.2.2.1 s.2.2.2.2.2.2.2.1 s.2.2.2.2.2.2.2.2.1 s.2.2.2.2.2.2.2.2.2.1 s.2.2.2.2.2.2.2.2.2.2.1 s.2.2.2.2.2.2.2.2.2.2.2.1 s.2.2.2.2.2.2.2.2.2.2.2.2.1 s.2.2.2.2.2.2.2.2.2.2.2.2.2) (fun s => I s.1 s.2.1 s.2.2.1 s.2.2.2.1 s.2.2.2.2.1 s.2.2.2.2.2.1 s.2.2.2.2.2.2.1 s.2.2.2.2.2.2.2.1 s.2.2.2.2.2.2.2.2.1 s.2.2.2.2.2.2.2.2.2.1 s.2.2.2.2.2.2.2.2.2.2.1 s.2.2.2.2.2.2.2.2.2.2.2.1 s.2.2.2.2.2.2.2.2.2.2.2.2.1 s.2.2.2.2.2.2.2.2.2.2.2.2.2) (fun s => μ s.1 s.2.1 s.2.2.1 s.2.2.2.1 s.2.2.2.2.1 s.2.2.2.2.2.1 s.2.2.2.2.2.2.1 s.2.2.2.2.2.2.2.1 s.2.2.2.2.2.2.2.2.1 s.2.2.2.2.2.2.2.2.2.1 s.2.2.2.2.2.2.2.2.2.2.1 s.2.2.2.2.2.2.2.2.2.2.2.1 s.2.2.2.2.2.2.2.2.2.2.2.2.1 s.2.2.2.2.2.2.2.2.2.2.2.2.2) (fun n s hI hk => hs n s.1 s.2.1 s.2.2.1 s.2.2.2.1 s.2.2.2.2.1 s.2.2.2.2.2.1 s.2.2.2.2.2.2.1 s.2.2.2.2.2.2.2.1 s.2.2.2.2.2.2.2.2.1 s.2.2.2.2.2.2.2.2.2.1 s.2.2.2.2.2.2.2.2.2.2.1 s.2.2.2.2.2.2.2.2.2.2.2.1 s.2.2.2.2.2.2.2.2.2.2.2.2.1 s.2.2.2.2.2.2.2.2.2.2.2.2.2 hI (fun b1 b2 b3 b4 b5 b6 b7 b8 b9 b10 b11 b12 b13 b14 h9 hm => hk (b1, b2, b3, b4, b5, b6, b7, b8, b9, b10, b11, b12, b13, b14) h9 hm)) (a1, a2, a3, a4, a5, a6, a7, a8, a9, a10, a11, a12, a13, a14) h
theorem lp15 {A1 A2 A3 A4 A5 A6 A7 A8 A9 A10 A11 A12 A13 A14 A15 : Type} (W : Nat → A1 → A2 → A3 → A4 → A5 → A6 → A7 → A8 → A9 → A10 → A11 → A12 → A13 → A14 → A15 → Prop) (I : A1 → A2 → A3 → A4 → A5 → A6 → A7 → A8 → A9 → A10 → A11 → A12 → A13 → A14 → A15 → Prop) (μ : A1 → A2 → A3 → A4 → A5 → A6 → A7 → A8 → A9 → A10 → A11 → A12 → A13 → A14 → A15 → Nat) (hs : ∀ (n : Nat) (a1 : A1) (a2 : A2) (a3 : A3) (a4 : A4) (a5 : A5) (a6 : A6) (a7 : A7) (a8 : A8) (a9 : A9) (a10 : A10) (a11 : A11) (a12 : A12) (a13 : A13) (a14 : A14) (a15 : A15), I a1 a2 a3 a4 a5 a6 a7 a8 a9 a10 a11 a12 a13 a14 a15 → (∀ (b1 : A1) (b2 : A2) (b3 : A3) (b4 : A4) (b5 : A5) (b6 : A6) (b7 : A7) (b8 : A8) (b9 : A9) (b10 : A10) (b11 : A11) (b12 : A12) (b13 : A13) (b14 : A14) (b15 : A15), I b1 b2 b3 b4 b5 b6 b7 b8 b9 b10 b11 b12 b13 b14 b15 → μ b1 b2 b3 b4 b5 b6 b7 b8 b9 b10 b11 b12 b13 b14 b15 < μ a1 a2 a3 a4 a5 a6 a7 a8 a9 a10 a11 a12 a13 a14 a15 → W n b1 b2 b3 b4 b5 b6 b7 b8 b9 b10 b11 b12 b13 b14 b15) → W (n + 1) a1 a2 a3 a4 a5 a6 a7 a8 a9 a10 a11 a12 a13 a14 a15) (a1 : A1) (a2 : A2) (a3 : A3) (a4 : A4) (a5 : A5) (a6 : A6) (a7 : A7) (a8 : A8) (a9 : A9) (a10 : A10) (a11 : A11) (a12 : A12) (a13 : A13) (a14 : A14) (a15 : A15) (h : I a1 a2 a3 a4 a5 a6 a7 a8 a9 a10 a11 a12 a13 a14 a15) : ∃ n, W n a1 a2 a3 a4 a5 a6 a7 a8 a9 a10 a11 a12 a13 a14 a15 :=
  loop_m (σ := A1 × A2 × A3 × A4 × A5 × A6 × A7 × A8 × A9 × A10 × A11 × A12 × A13 × A14 × A15) (fun n s => W n s.1 s.2.1 s.2.2.1 s.2.2.2.1 s.2.2.2.2.1 s.2.2.2.2.2.1 s.2.2.2.2.2.2.1 s.2.2.2.2.2.2.2.1 s.2.2.2.2.2.2.2.2.1 s.2.2.2.2.2.2.2.2.2.1 s.2.2.2.2.2.2.2.2.2.2.1 s.2.2.2.2.2.2.2.2.2.2.2.1 s.2.2.2.2.2.2.2.2.2.2.2.2.1 s.2.2.2.2.2.2.2.2.2.2.2.2.2.1 s.2.2.2.2.2.2.2.2.2.2.2.2.2.2) (fun s => I s.1 s.2.1 s.2.2.1 s.2.2.2.1 s.2.2.2.2.1 s.2.2.2.2.2.1 s.2.2.2.2.2.2.1 s.2.2.2.2.2.2.2.1 s.2.2.2.2.2.2.2.2.1 s.2.2.2.2.2.2.2.2.2.1 s.2.2.2.2.2.2.2.2.2.2.1 s.2.2.2.2.2.2.2.2.2.2.2.1 s.2.2.2.2.2.2.2.2.2.2.2.2.1 s.2.2.2.2.2.2.2.2.2.2.2.2.2.1 s.2.2.2.2.2.2.2.2.2.2.2.2.2.2) (fun s => μ s.1 s.2.1 s.2.2.1 s.2.2.2.1 s.2.2.2.2.1 s.2.2.2.2.2.1 s.2.2.2.2.2.2.1 s.2.2.2.2.2.2.2.1 s.2.2.2.2.2.2.2.2.1 s.2.2.2.2.2.2.2.2.2.1 s.2.2.2.2.2.2.2.2.2.2.1 s.2.2.2.2.2.2.2.2.2.2.2.1 s.2.2.2.2.2.2.2.2.2.2.2.2.1 s.2.2.2.2.2.2.2.2.2.2.2.2.2.1 s.2.2.2.2.2.2.2.2.2.2.2.2.2.2) (fun n s hI hk => hs n s.1 s.2.1 s.2.2.1 s.2.2.2.1 s.2.2.2.2.1 s.2.2.2.2.2.1 s.2.2.2.2.2.2.1 s.2.2.2.2.2.2.2.1 s.2.2.2.2.2.2.2.2.1 s.2.2.2.2.2.2.2.2.2.1 s.2.2.2.2.2.2.2.2.2.2.1 s.2.2.2.2.2.2.2.2.2.2.2.1 s.2.2.2.2.2.2.2.2.2.2.2.2.1 s.2.2.2.2.2.2.2.2.2.2.2.2.2.1 s.2.2.2.2.2.2.2.2.2.2.2.2.2.2 hI (fun b1 b2 b3 b4 b5 b6 b7 b8 b9 b10 b11 b12 b13 b14 b15 h9 hm => hk (b1, b2, b3, b4, b5, b6, b7, b8, b9, b10, b11, b12, b13, b14, b15) h9 hm)) (a1, a2, a3, a4, a5, a6, a7, a8, a9, a10, a11, a12, a13, a14, a15) h
theorem lp16 {A1 A2 A3 A4 A5 A6 A7 A8 A9 A10 A11 A12 A13 A14 A15 A16 : Type} (W : Nat → A1 → A2 → A3 → A4 → A5 → A6 → A7 → A8 → A9 → A10 → A11 → A12 → A13 → A14 → A15 → A16 → Prop) (I : A1 → A2 → A3 → A4 → A5 → A6 → A7 → A8 → A9 → A10 → A11 → A12 → A13 → A14 → A15 → A16 → Prop) (μ : A1 → A2 → A3 → A4 → A5 → A6 → A7 → A8 → A9 → A10 → A11 → A12 → A13 → A14 → A15 → A16 → Nat) (hs : ∀ (n : Nat) (a1 : A1) (a2 : A2) (a3 : A3) (a4 : A4) (a5 : A5) (a6 : A6) (a7 : A7) (a8 : A8) (a9 : A9) (a10 : A10) (a11 : A11) (a12 : A12) (a13 : A13) (a14 : A14) (a15 : A15) (a16 : A16), I a1 a2 a3 a4 a5 a6 a7 a8 a9 a10 a11 a12 a13 a14 a15 a16 → (∀ (b1 : A1) (b2 : A2) (b3 : A3) (b4 : A4) (b5 : A5) (b6 : A6) (b7 : A7) (b8 : A8) (b9 : A9) (b10 : A10) (b11 : A11) (b12 : A12) (b13 : A13) (b14 : A14) (b15 : A15) (b16 : A16), I b1 b2 b3 b4 b5 b6 b7 b8 b9 b10 b11 b12 b13 b14 b15 b16 → μ b1 b2 b3 b4 b5 b6 b7 b8 b9 b10 b11 b12 b13 b14 b15 b16 < μ a1 a2 a3 a4 a5 a6 a7 a8 a9 a10 a11 a12 a13 a14 a15 a16 → W n b1 b2 b3 b4 b5 b6 b7 b8 b9 b10 b11 b12 b13 b14 b15 b16) → W (n + 1) a1 a2 a3 a4 a5 a6 a7 a8 a9 a10 a11 a12 a13 a14 a15 a16) (a1 : A1) (a2 : A2) (a3 : A3) (a4 : A4) (a5 : A5) (a6 : A6) (a7 : A7) (a8 : A8) (a9 : A9) (a10 : A10) (a11 : A11) (a12 : A12) (a13 : A13) (a14 : A14) (a15 : A15) (a16 : A16) (h : I a1 a2 a3 a4 a5 a6 a7 a8 a9 a10 a11 a12 a13 a14 a15 a16) : ∃ n, W n a1 a2 a3 a4 a5 a6 a7 a8 a9 a10 a11 a12 a13 a14 a15 a16 :=
  loop_m (σ := A1 × A2 × A3 × A4 × A5 × A6 × A7 × A8 × A9 × A10 × A11 × A12 × A13 × A14 × A15 × A16) (fun n s => W n s.1 s.2.1 s.2.2.1 s.2.2.2.1 s.2.2.2.2.1 s.2.2.2.2.2.1 s.2.2.2.2.2.2.1 s.2.2.2.2.2.2.2.1 s.2.2.2.2.2.2.2.2.1 s.2.2.2.2.2.2.2.2.2.1 s.2.2.2.2.2.2.2.2.2.2.1 s.2.2.2.2.2.2.2.2.2.2.2.1 s.2.2.2.2.2.2.2.2.2.2.2.2.1 s.2.2.2.2.2.2.2.2.2.2.2.2.2.1 s.2.2.2.2.2.2.2.2.2.2.2.2.2.2.1 s.2.2.2.2.2.2.2.2.2.2.2.2.2.2.2) (fun s => I s.1 s.2.1 s.2.2.1 s.2.2.2.1 s.2.2.2.2.1 s.2.2.2.2.2.1 s.2.2.2.2.2.2.1 s.2.2.2.2.2.2.2.1 s.2.2.2.2.2.2.2.2.1 s.2.2.2.2.2.2.2.2.2.1 s.2.2.2.2.2.2.2.2.2.2.1 s.2.2.2.2.2.2.2.2.2.2.2.1 s.2.2.2.2.2.2.2.2.2.2.2.2.1 s.2.2.2.2.2.2.2.2.2.2.2.2.2.1 s.2.2.2.2.2.2.2.2.2.2.2.2.2.2.1 s.2.2.2.2.2.2.2.2.2.2.2.2.2.2.2) (fun s => μ s.1 s.2.1 s.2.2.1 s.2.2.2.1 s.2.2.2.2.1 s.2.2.2.2.2.1 s.2.2.2.2.2.2.1 s.2.2.2.2.2.2.2.1 s.2.2.2.2.2.2.2.2.1 s.2.2.2.2.2.2.2.2.2.1 s.2.2.2.2.2.2.2.2.2.2.1 s.2.2.2.2.2.2.2.2.2.2.2.1 s.2.2.2.2.2.2.2.2.2.2.2.2.1 s.2.2.2.2.2.2.2.2.2.2.2.2.2.1 s.2.2.2.2.2.2.2.2.2.2.2.2.2.2.1 s.2.2.2.2.2.2.2.2.2.2.2.2.2.2.2) (fun n s hI hk => hs n s.1 s.2.1 s.2.2.1 s.2.2.2.1 s.2.2.2.2.1 s.2.2.2.2.2.1 s.2.2.2.2.2.2.1 s.2.2.2.2.2.2.2.1 s.2.2.2.2.2.2.2.2.1 s.2.2.2.2.2.2.2.2.2.1 s.2.2.2.2.2.2.2.2.2.2.1 s.2.2.2.2.2.2.2.2.2.2.2.1 s.2.2.2.2.2.2.2.2.2.2.2.2.1 s.2.2.2.2.2.2.2.2.2.2.2.2.2.1 s.2.2.2.2.2.2.2.2.2.2.2.2.2.2.1 s.2.2.2.2.2.2.2.2.2.2.2.2.2.2.2 hI (fun b1 b2 b3 b4 b5 b6 b7 b8 b9 b10 b11 b12 b13 b14 b15 b16 h9 hm => hk (b1, b2, b3, b4, b5, b6, b7, b8, b9, b10, b11, b12, b13, b14, b15, b16) h9 hm)) (a1, a2, a3, a4, a5, a6, a7, a8, a9, a10, a11, a12, a13, a14, a15, a16) h
theorem pk_least (P : Nat → Prop) (h : ∃ k, P k) : ∃ k, P k ∧ ∀ j, j < k → ¬ P j := by
  obtain ⟨k, hk⟩ := h
  induction k using Nat.strongRecOn with
  | ind k ih =>
    by_cases e : ∃ j, j < k ∧ P j
    · obtain ⟨j, hj, pj⟩ := e
      exact ih j hj pj
    · exact ⟨k, hk, fun j hj pj => e ⟨j, hj, pj⟩⟩
theorem rp1 {ρ A1 : Type} (W : Nat → (ρ → Prop) → A1 → Prop) (ok : A1 → Prop) (μ : A1 → Nat) (val : A1 → ρ)
    (hs : ∀ (d : Nat) (post : ρ → Prop) (a1 : A1), ok a1 → post (val a1) → (∀ (post' : ρ → Prop) (b1 : A1), ok b1 → μ b1 < μ a1 → post' (val b1) → W d post' b1) → W (d + 1) post a1) :
    ∀ (d : Nat) (post : ρ → Prop) (a1 : A1), ok a1 → μ a1 < d → post (val a1) → W d post a1 := by
  intro d
  induction d with
  | zero => intro post a1 _ h; omega
  | succ d ih =>
    intro post a1 ho hm hp
    exact hs d post a1 ho hp (fun post' b1 ho' hm' hp' => ih post' b1 ho' (by omega) hp')
theorem rp2 {ρ A1 A2 : Type} (W : Nat → (ρ → Prop) → A1 → A2 → Prop) (ok : A1 → A2 → Prop) (μ : A1 → A2 → Nat) (val : A1 → A2 → ρ)
    (hs : ∀ (d : Nat) (post : ρ → Prop) (a1 : A1) (a2 : A2), ok a1 a2 → post (val a1 a2) → (∀ (post' : ρ → Prop) (b1 : A1) (b2 : A2), ok b1 b2 → μ b1 b2 < μ a1 a2 → post' (val b1 b2) → W d post' b1 b2) → W (d + 1) post a1 a2) :
    ∀ (d : Nat) (post : ρ → Prop) (a1 : A1) (a2 : A2), ok a1 a2 → μ a1 a2 < d → post (val a1 a2) → W d post a1 a2 := by
  intro d
  induction d with
  | zero => intro post a1 a2 _ h; omega
  | succ d ih =>
    intro post a1 a2 ho hm hp
    exact hs d post a1 a2 ho hp (fun post' b1 b2 ho' hm' hp' => ih post' b1 b2 ho' (by omega) hp')
theorem rp3 {ρ A1 A2 A3 : Type} (W : Nat → (ρ → Prop) → A1 → A2 → A3 → Prop) (ok : A1 → A2 → A3 → Prop) (μ : A1 → A2 → A3 → Nat) (val : A1 → A2 → A3 → ρ)
    (hs : ∀ (d : Nat) (post : ρ → Prop) (a1 : A1) (a2 : A2) (a3 : A3), ok a1 a2 a3 → post (val a1 a2 a3) → (∀ (post' : ρ → Prop) (b1 : A1) (b2 : A2) (b3 : A3), ok b1 b2 b3 → μ b1 b2 b3 < μ a1 a2 a3 → post' (val b1 b2 b3) → W d post' b1 b2 b3) → W (d + 1) post a1 a2 a3) :
    ∀ (d : Nat) (post : ρ → Prop) (a1 : A1) (a2 : A2) (a3 : A3), ok a1 a2 a3 → μ a1 a2 a3 < d → post (val a1 a2 a3) → W d post a1 a2 a3 := by
  intro d
  induction d with
  | zero => intro post a1 a2 a3 _ h; omega
  | succ d ih =>
    intro post a1 a2 a3 ho hm hp
    exact hs d post a1 a2 a3 ho hp (fun post' b1 b2 b3 ho' hm' hp' => ih post' b1 b2 b3 ho' (by omega) hp')
theorem rp4 {ρ A1 A2 A3 A4 : Type} (W : Nat → (ρ → Prop) → A1 → A2 → A3 → A4 → Prop) (ok : A1 → A2 → A3 → A4 → Prop) (μ : A1 → A2 → A3 → A4 → Nat) (val : A1 → A2 → A3 → A4 → ρ)
    (hs : ∀ (d : Nat) (post : ρ → Prop) (a1 : A1) (a2 : A2) (a3 : A3) (a4 : A4), ok a1 a2 a3 a4 → post (val a1 a2 a3 a4) → (∀ (post' : ρ → Prop) (b1 : A1) (b2 : A2) (b3 : A3) (b4 : A4), ok b1 b2 b3 b4 → μ b1 b2 b3 b4 < μ a1 a2 a3 a4 → post' (val b1 b2 b3 b4) → W d post' b1 b2 b3 b4) → W (d + 1) post a1 a2 a3 a4) :
    ∀ (d : Nat) (post : ρ → Prop) (a1 : A1) (a2 : A2) (a3 : A3) (a4 : A4), ok a1 a2 a3 a4 → μ a1 a2 a3 a4 < d → post (val a1 a2 a3 a4) → W d post a1 a2 a3 a4 := by
  intro d
  induction d with
  | zero => intro post a1 a2 a3 a4 _ h; omega
  | succ d ih =>
    intro post a1 a2 a3 a4 ho hm hp
    exact hs d post a1 a2 a3 a4 ho hp (fun post' b1 b2 b3 b4 ho' hm' hp' => ih post' b1 b2 b3 b4 ho' (by omega) hp')
theorem rp5 {ρ A1 A2 A3 A4 A5 : Type} (W : Nat → (ρ → Prop) → A1 → A2 → A3 → A4 → A5 → Prop) (ok : A1 → A2 → A3 → A4 → A5 → Prop) (μ : A1 → A2 → A3 → A4 → A5 → Nat) (val : A1 → A2 → A3 → A4 → A5 → ρ)
    (hs : ∀ (d : Nat) (post : ρ → Prop) (a1 : A1) (a2 : A2) (a3 : A3) (a4 : A4) (a5 : A5), ok a1 a2 a3 a4 a5 → post (val a1 a2 a3 a4 a5) → (∀ (post' : ρ → Prop) (b1 : A1) (b2 : A2) (b3 : A3) (b4 : A4) (b5 : A5), ok b1 b2 b3 b4 b5 → μ b1 b2 b3 b4 b5 < μ a1 a2 a3 a4 a5 → post' (val b1 b2 b3 b4 b5) → W d post' b1 b2 b3 b4 b5) → W (d + 1) post a1 a2 a3 a4 a5) :
    ∀ (d : Nat) (post : ρ → Prop) (a1 : A1) (a2 : A2) (a3 : A3) (a4 : A4) (a5 : A5), ok a1 a2 a3 a4 a5 → μ a1 a2 a3 a4 a5 < d → post (val a1 a2 a3 a4 a5) → W d post a1 a2 a3 a4 a5 := by
  intro d
  induction d with
  | zero => intro post a1 a2 a3 a4 a5 _ h; omega
  | succ d ih =>
    intro post a1 a2 a3 a4 a5 ho hm hp
    exact hs d post a1 a2 a3 a4 a5 ho hp (fun post' b1 b2 b3 b4 b5 ho' hm' hp' => ih post' b1 b2 b3 b4 b5 ho' (by omega) hp')
theorem rp6 {ρ A1 A2 A3 A4 A5 A6 : Type} (W : Nat → (ρ → Prop) → A1 → A2 → A3 → A4 → A5 → A6 → Prop) (ok : A1 → A2 → A3 → A4 → A5 → A6 → Prop) (μ : A1 → A2 → A3 → A4 → A5 → A6 → Nat) (val : A1 → A2 → A3 → A4 → A5 → A6 → ρ)
    (hs : ∀ (d : Nat) (post : ρ → Prop) (a1 : A1) (a2 : A2) (a3 : A3) (a4 : A4) (a5 : A5) (a6 : A6), ok a1 a2 a3 a4 a5 a6 → post (val a1 a2 a3 a4 a5 a6) → (∀ (post' : ρ → Prop) (b1 : A1) (b2 : A2) (b3 : A3) (b4 : A4) (b5 : A5) (b6 : A6), ok b1 b2 b3 b4 b5 b6 → μ b1 b2 b3 b4 b5 b6 < μ a1 a2 a3 a4 a5 a6 → post' (val b1 b2 b3 b4 b5 b6) → W d post' b1 b2 b3 b4 b5 b6) → W (d + 1) post a1 a2 a3 a4 a5 a6) :
    ∀ (d : Nat) (post : ρ → Prop) (a1 : A1) (a2 : A2) (a3 : A3) (a4 : A4) (a5 : A5) (a6 : A6), ok a1 a2 a3 a4 a5 a6 → μ a1 a2 a3 a4 a5 a6 < d → post (val a1 a2 a3 a4 a5 a6) → W d post a1 a2 a3 a4 a5 a6 := by
  intro d
  induction d with
  | zero => intro post a1 a2 a3 a4 a5 a6 _ h; omega
  | succ d ih =>
    intro post a1 a2 a3 a4 a5 a6 ho hm hp
    exact hs d post a1 a2 a3 a4 a5 a6 ho hp (fun post' b1 b2 b3 b4 b5 b6 ho' hm' hp' => ih post' b1 b2 b3 b4 b5 b6 ho' (by omega) hp')
theorem rec_p {σ ρ : Type} (W : Nat → (ρ → Prop) → σ → Prop) (ok : σ → Prop) (μ : σ → Nat) (val : σ → ρ)
    (hs : ∀ d s post, ok s → post (val s) → (∀ s' post', ok s' → μ s' < μ s → post' (val s') → W d post' s') → W (d + 1) post s) :
    ∀ d s post, ok s → μ s < d → post (val s) → W d post s := by
  intro d
  induction d with
  | zero => intro s post _ h; omega
  | succ d ih =>
    intro s post ho hm hp
    exact hs d s post ho hp (fun s' post' ho' hm' hp' => ih s' post' ho' (by omega) hp')
theorem rec_q {σ ρ : Type} (W : Nat → (ρ → Prop) → σ → Prop) (ok : σ → Prop) (μ : σ → Nat) (Q : σ → ρ → Prop)
    (hs : ∀ d s post, ok s → (∀ r, Q s r → post r) → (∀ s' post', ok s' → μ s' < μ s → (∀ r, Q s' r → post' r) → W d post' s') → W (d + 1) post s) :
    ∀ d s post, ok s → μ s < d → (∀ r, Q s r → post r) → W d post s := by
  intro d
  induction d with
  | zero => intro s post _ h; omega
  | succ d ih =>
    intro s post ho hm hp
    exact hs d s post ho hp (fun s' post' ho' hm' hp' => ih s' post' ho' (by omega) hp')
def bx_sum (f : Nat → Int32) : Nat → Int32
  | 0 => 0
  | n + 1 => bx_sum f n + f n
theorem ek_u {A : Prop} {B : Nat → Prop} {k N : Nat} (hk : k < N) (h : B k) : (some k = none → A) ∧ (∀ y : Nat, some k = some y → (y < N ∧ B y)) :=
  ⟨fun z => absurd z (Option.some_ne_none k), fun _ e => (by cases e; exact ⟨hk, h⟩)⟩
theorem ek_nu {A : Prop} {B : Nat → Prop} (h : A) : ((none : Option Nat) = none → A) ∧ (∀ y : Nat, (none : Option Nat) = some y → B y) :=
  ⟨fun _ => h, fun _ e => (by cases e)⟩
theorem ek_if {c d A B : Prop} (e : c ↔ d) (f : d → A) (g : ¬ d → B) : (c → A) ∧ (¬ c → B) :=
  ⟨fun z => f (e.mp z), fun z => g (fun y => z (e.mpr y))⟩
theorem ek_v {α : Sort _} {P : α → Prop} {a b : α} (e : a = b) (h : P b) : P a := e ▸ h
theorem co_some {x : Option Nat} {A : Prop} {B : Nat → Prop} (i : Nat) (h : B i) (hx : x = some i := by rfl) : (x = none → A) ∧ (∀ y : Nat, x = some y → B y) := by
  subst hx
  exact ⟨fun e => (nomatch e), fun y e => Option.some.inj e ▸ h⟩
theorem co_none {x : Option Nat} {A : Prop} {B : Nat → Prop} (h : A) (hx : x = none := by rfl) : (x = none → A) ∧ (∀ y : Nat, x = some y → B y) := by
  subst hx
  exact ⟨fun _ => h, fun y e => (nomatch e)⟩
theorem co_any {x : Option Nat} {A : Prop} {B : Nat → Prop} (hn : x = none → A) (hs : ∀ i : Nat, x = some i → B i) : (x = none → A) ∧ (∀ y : Nat, x = some y → B y) := ⟨hn, hs⟩
theorem co_2 {P : Nat → Prop} (h0 : P 0) (h1 : P 1) {i : Nat} (hi : i < 2) : P i :=
  match i, hi with
  | 0, _ => h0
  | 1, _ => h1
theorem co_3 {P : Nat → Prop} (h0 : P 0) (h1 : P 1) (h2 : P 2) {i : Nat} (hi : i < 3) : P i :=
  match i, hi with
  | 0, _ => h0
  | 1, _ => h1
  | 2, _ => h2
theorem co_4 {P : Nat → Prop} (h0 : P 0) (h1 : P 1) (h2 : P 2) (h3 : P 3) {i : Nat} (hi : i < 4) : P i :=
  match i, hi with
  | 0, _ => h0
  | 1, _ => h1
  | 2, _ => h2
  | 3, _ => h3
theorem co_dec {N : Nat} {P : Nat → Prop} [DecidablePred P] (h : (List.range N).all (fun i => decide (P i)) = true) {i : Nat} (hi : i < N) : P i := by
  have := List.all_eq_true.mp h i (List.mem_range.mpr hi)
  exact of_decide_eq_true this
theorem co_tab {α : Type} {l : List α} {d : α} {P : α → Prop} (h : ∀ a, a ∈ l → P a) {i : Nat} (hi : i < l.length) : P (l.getD i d) := by
  rw [List.getD_eq_getElem?_getD, List.getElem?_eq_getElem hi]
  exact h _ (List.getElem_mem hi)
theorem pk_mu {x : Int32} {L : Nat} (h0 : ¬ x < 0) (h : ¬ nI L ≤ x) (hL : L < 2 ^ 31) : ∃ j : Nat, j < L ∧ x = nI j ∧ x + 1 = nI (j + 1) ∧ x.toNatClampNeg = j ∧ L - (x + 1).toNatClampNeg < L - x.toNatClampNeg := by
  obtain ⟨j, hj, rfl⟩ := nI_of h0
  have hl : j < L := Nat.not_le.mp fun q => h (nI_le q hj)
  refine ⟨j, hl, rfl, nI_1 j, nI_clamp hj, ?_⟩
  rw [nI_1, nI_clamp (by omega), nI_clamp hj]
  omega
theorem op_s {α : Type} {r : Option α} {A : Prop} {B : α → Prop} {y : α} (h : r = some y) (b : B y) : (r = none → A) ∧ ∀ z, r = some z → B z :=
  ⟨fun e => (by rw [h] at e; cases e), fun z e => (by rw [h] at e; cases e; exact b)⟩
def l_holds {α : Type} (a : Nat → Option Nat) (LP : List Nat) (p : Nat → α) (c : Nat) (b : Nat → α) : Prop :=
  ∀ j, j < c → ∃ y, a j = some y ∧ y ∈ LP ∧ p y = b j
theorem l_holds_0 {α : Type} {a : Nat → Option Nat} {LP : List Nat} {p b : Nat → α} : l_holds a LP p 0 b := fun j h => absurd h (Nat.not_lt_zero j)
theorem l_in_new (LP : List Nat) (q : Nat) : q ∈ LP ++ [q] := List.mem_append.mpr (Or.inr (List.mem_singleton.mpr rfl))
def l_sum (b : Nat → Int32) : Nat → Int32
  | 0 => 0
  | k + 1 => l_sum b k + b k
theorem sb_shr0 (x : Int32) : x >>> ((0 : Int32) &&& 31) = x := by
  rw [show ((0 : Int32) &&& 31) = 0 by decide]
  simp
theorem sb_shl0 (x : Int32) : x <<< ((0 : Int32) &&& 31) = x := by
  rw [show ((0 : Int32) &&& 31) = 0 by decide]
  simp
theorem sb_cl0 : (0 : Int32).toNatClampNeg = 0 := by decide
theorem sb_m1 {p : Nat} (h : 0 < p) : nI p + (-1) = nI (p - 1) := by
  obtain ⟨q, rfl⟩ : ∃ q, p = q + 1 := ⟨p - 1, by omega⟩
  exact pk_m1 q
def sb_b (c : Nat) : Int32 := (nI c).toInt8.toInt32
theorem sb_byte : ∀ c, c < 256 → sb_b c &&& 255 = nI c ∧ ((nI c).toUInt32 % 65536).toInt32 = nI c ∧ nI c ≤ 255 := by decide +kernel
def sb_Fit (a : Nat → Int32) : Prop := ∀ j, fits .byte (.int (a j)) = true
def sb_Lat (t : Nat → Nat) (n : Nat) (a : Nat → Int32) : Prop := ∀ j, j < n → t j < 256 ∧ a j = sb_b (t j)
theorem sb_fitB (c : Nat) : fits .byte (.int (sb_b c)) = true := pk_fb _
theorem sb_fit0 : sb_Fit (fun _ => 0) := fun _ => by
  show fits .byte (.int 0) = true
  decide
theorem sb_fitU {a : Nat → Int32} {k : Nat} {x : Int32} (h : sb_Fit a) (hx : fits .byte (.int x) = true) : sb_Fit (upd a k x) := by
  intro j
  by_cases e : j = k
  · subst e
    rw [pk_us]
    exact hx
  · rw [pk_un e]
    exact h j
def sb_cat (t : Nat → Nat) (n : Nat) (s : Nat → Nat) : Nat → Nat := fun j => if j < n then t j else s (j - n)
theorem sb_cat_lo {t s : Nat → Nat} {n j : Nat} (h : j < n) : sb_cat t n s j = t j := if_pos h
theorem sb_cat_hi {t s : Nat → Nat} {n j : Nat} : sb_cat t n s (n + j) = s j := by
  show (if n + j < n then t (n + j) else s (n + j - n)) = s j
  rw [if_neg (by omega), Nat.add_sub_cancel_left]
theorem sb_latPut {t s : Nat → Nat} {n w : Nat} {a a' : Nat → Int32} (h : sb_Lat t n a) (hk : ∀ j, j < n → a' j = a j) (hs : ∀ i, i < w → s i < 256 ∧ a' (n + i) = sb_b (s i)) : sb_Lat (sb_cat t n s) (n + w) a' := by
  intro j hj
  by_cases e : j < n
  · rw [sb_cat_lo e, hk j e]
    exact h j e
  · obtain ⟨i, rfl⟩ : ∃ i, j = n + i := ⟨j - n, by omega⟩
    rw [sb_cat_hi]
    exact hs i (by omega)
theorem sb_latKeep {t : Nat → Nat} {n : Nat} {a a' : Nat → Int32} (h : sb_Lat t n a) (hk : ∀ j, j < n → a' j = a j) : sb_Lat t n a' := fun j hj => by
  rw [hk j hj]
  exact h j hj
def sb_cap (q m : Nat) : Nat := if q ≤ m then m else if 2 * m + 2 < q then q else 2 * m + 2
def sb_Room (q m mc ms : Nat) : Prop := q ≤ m ∨ (1 ≤ mc ∧ sb_cap q m ≤ ms ∧ sb_cap q m ≤ 65536)
theorem sb_cap_ge (q m : Nat) : q ≤ sb_cap q m := by
  unfold sb_cap
  split
  · omega
  · split <;> omega
theorem sb_cap_gem (q m : Nat) : m ≤ sb_cap q m := by
  unfold sb_cap
  split
  · omega
  · split <;> omega
theorem sb_cap_le {q m mc ms : Nat} (hm : m ≤ 65536) (hr : sb_Room q m mc ms) : sb_cap q m ≤ 65536 := by
  rcases hr with h | h
  · rw [sb_cap, if_pos h]
    exact hm
  · exact h.2.2
theorem sb_at {P : Int32 → Prop} {x y : Int32} (e : x = y) (h : P y) : P x := e ▸ h
def sb_dg (w : Nat) : Nat := if w < 10 then 1 else if w < 100 then 2 else if w < 1000 then 3 else if w < 10000 then 4 else if w < 100000 then 5 else if w < 1000000 then 6 else if w < 10000000 then 7 else if w < 100000000 then 8 else if w < 1000000000 then 9 else 10
def sb_dec (v : Nat) : Nat → Nat := fun i => 48 + v / 10 ^ (sb_dg v - 1 - i) % 10
theorem sb_dg_in (w : Nat) : 1 ≤ sb_dg w ∧ sb_dg w ≤ 10 := by
  unfold sb_dg
  constructor <;> (repeat' split) <;> omega
theorem sb_dg100 {w : Nat} (h : 100 ≤ w) (hw : w < 2 ^ 31) : sb_dg w = sb_dg (w / 100) + 2 := by
  rw [sb_dg, sb_dg, if_neg (show ¬ w < 10 by omega), if_neg (show ¬ w < 100 by omega)]
  by_cases h3 : w < 1000
  · rw [if_pos h3, if_pos (show w / 100 < 10 by omega)]
  rw [if_neg h3, if_neg (show ¬ w / 100 < 10 by omega)]
  by_cases h4 : w < 10000
  · rw [if_pos h4, if_pos (show w / 100 < 100 by omega)]
  rw [if_neg h4, if_neg (show ¬ w / 100 < 100 by omega)]
  by_cases h5 : w < 100000
  · rw [if_pos h5, if_pos (show w / 100 < 1000 by omega)]
  rw [if_neg h5, if_neg (show ¬ w / 100 < 1000 by omega)]
  by_cases h6 : w < 1000000
  · rw [if_pos h6, if_pos (show w / 100 < 10000 by omega)]
  rw [if_neg h6, if_neg (show ¬ w / 100 < 10000 by omega)]
  by_cases h7 : w < 10000000
  · rw [if_pos h7, if_pos (show w / 100 < 100000 by omega)]
  rw [if_neg h7, if_neg (show ¬ w / 100 < 100000 by omega)]
  by_cases h8 : w < 100000000
  · rw [if_pos h8, if_pos (show w / 100 < 1000000 by omega)]
  rw [if_neg h8, if_neg (show ¬ w / 100 < 1000000 by omega)]
  by_cases h9 : w < 1000000000
  · rw [if_pos h9, if_pos (show w / 100 < 10000000 by omega)]
  rw [if_neg h9, if_neg (show ¬ w / 100 < 10000000 by omega)]
  rw [if_pos (show w / 100 < 100000000 by omega)]
theorem sb_negT {w : Nat} (h : w < 2 ^ 31) : (-nI w).toInt = -(w : Int) := by
  rw [Int32.toInt_neg, nI_toInt h]
  exact Int.bmod_eq_of_le (by omega) (by omega)
theorem sb_nle {a b : Nat} (ha : a < 2 ^ 31) (hb : b < 2 ^ 31) : -nI a ≤ -nI b ↔ b ≤ a := by
  rw [Int32.le_iff_toInt_le, sb_negT ha, sb_negT hb]
  omega
theorem sb_nlt {a b : Nat} (ha : a < 2 ^ 31) (hb : b < 2 ^ 31) : -nI a < -nI b ↔ b < a := by
  rw [Int32.lt_iff_toInt_lt, sb_negT ha, sb_negT hb]
  omega
theorem sb_cmp {A B : Prop} {x : Int32} (v c : Nat) (f : c ≤ v → A) (g : v < c → B) (hv : v < 2 ^ 31) (hx : x = -nI c := by rfl) (hc : c < 2 ^ 31 := by omega) : (-nI v ≤ x → A) ∧ (¬ -nI v ≤ x → B) := by
  subst hx
  rw [sb_nle hv hc]
  exact ⟨f, fun z => g (by omega)⟩
theorem sb_ndiv {w : Nat} (hw : w < 2 ^ 31) : (-nI w) / 100 = -nI (w / 100) := by
  apply Int32.toInt_inj.mp
  have h100 : (100 : Int32).toInt = 100 := by decide
  rw [Int32.toInt_div, sb_negT hw, h100, sb_negT (by omega), Int.neg_tdiv, Int.tdiv_eq_ediv_of_nonneg (by omega), Int.bmod_eq_of_le (by omega) (by omega)]
  omega
theorem sb_nrem {w : Nat} (hw : w < 2 ^ 31) : (-nI (w / 100)) * 100 - (-nI w) = nI (w % 100) := by
  have h := pk_rem (a := w) (d := 100) hw (by decide) (by decide)
  rw [pk_div hw (by decide) (by decide)] at h
  rw [← h]
  show (-nI (w / 100)) * nI 100 - (-nI w) = nI w - nI (w / 100) * nI 100
  rw [Int32.neg_mul, Int32.sub_neg, Int32.add_comm, ← Int32.sub_eq_add_neg]
end
section
section TKB
/-! natural ghosts of small arrays; stores and loads as terms; counts -/
def tk_nf (g : Nat → Nat) : Nat → Int32 := fun j => nI (g j)
def tk_nu (g : Nat → Nat) (k v : Nat) : Nat → Nat := fun j => if j = k then v else g j
theorem tk_upd (g : Nat → Nat) (k v : Nat) : upd (tk_nf g) k (nI v) = tk_nf (tk_nu g k v) := by
  funext j
  show (if j = k then nI v else nI (g j)) = nI (if j = k then v else g j)
  split <;> rfl
theorem tk_nus {g : Nat → Nat} {k v : Nat} : tk_nu g k v k = v := if_pos rfl
theorem tk_nun {g : Nat → Nat} {k v j : Nat} (h : j ≠ k) : tk_nu g k v j = g j := if_neg h
theorem tk_nuk {g : Nat → Nat} {k v : Nat} (h : g k = v) : tk_nu g k v = g := by
  funext j
  show (if j = k then v else g j) = g j
  by_cases e : j = k
  · rw [if_pos e, e, h]
  · rw [if_neg e]
theorem tk_updk {g : Nat → Int32} {k : Nat} {v : Int32} (h : g k = v) : upd g k v = g := by
  funext j
  show (if j = k then v else g j) = g j
  by_cases e : j = k
  · rw [if_pos e, e, h]
  · rw [if_neg e]
theorem tk_st {i : Int32} {N : Nat} {a : Nat → Int32} {v : Int32} {P : (Nat → Int32) → Prop} (n : Nat) (v' : Int32) (hn : n < N) (h : P (upd a n v')) (hi : i = nI n := by rfl) (hv : v = v' := by rfl) (hN : N < 2 ^ 31 := by decide) : vp_in i N ∧ ∀ b : Nat → Int32, b = upd a i.toNatClampNeg v → P b := by
  subst hi hv
  refine ⟨vp_in_nI hn hN, fun b e => ?_⟩
  rw [e, nI_clamp (by omega)]
  exact h
theorem tk_sn {i : Int32} {N : Nat} {g : Nat → Nat} {v : Int32} {P : (Nat → Int32) → Prop} (n w : Nat) (hn : n < N) (h : P (tk_nf (tk_nu g n w))) (hi : i = nI n := by rfl) (hv : v = nI w := by rfl) (hN : N < 2 ^ 31 := by decide) : vp_in i N ∧ ∀ b : Nat → Int32, b = upd (tk_nf g) i.toNatClampNeg v → P b := by
  subst hi hv
  refine ⟨vp_in_nI hn hN, fun b e => ?_⟩
  rw [e, nI_clamp (by omega), tk_upd]
  exact h
theorem tk_ld {i : Int32} {N : Nat} {a : Nat → Int32} {P : Int32 → Prop} (n : Nat) (x : Int32) (hn : n < N) (h : P x) (hi : i = nI n := by rfl) (hx : a n = x := by rfl) (hN : N < 2 ^ 31 := by decide) : vp_in i N ∧ ∀ y : Int32, y = a i.toNatClampNeg → P y := by
  subst hi hx
  refine ⟨vp_in_nI hn hN, fun b e => ?_⟩
  rw [e, nI_clamp (by omega)]
  exact h
theorem tk_ri {i : Int32} {a : Nat → Int32} (n : Nat) (hi : i = nI n := by rfl) (hn : n < 2 ^ 31 := by omega) : a i.toNatClampNeg = a n := by
  subst hi
  rw [nI_clamp hn]
theorem tk_rn {i : Int32} (g : Nat → Nat) (n : Nat) (hi : i = nI n := by rfl) (hn : n < 2 ^ 31 := by omega) : tk_nf g i.toNatClampNeg = nI (g n) := by
  subst hi
  rw [nI_clamp hn]
  rfl
theorem tk_ap {P : Int32 → Prop} {x y : Int32} (e : x = y) (h : P y) : P x := e ▸ h
theorem tk_b8 : ∀ v, v < 128 → (nI v).toInt8.toInt32 = nI v := by decide +kernel
theorem tk_vb {x : Int32} (w : Nat) (hx : x = nI w := by rfl) (hw : w < 128 := by omega) : vp_nar .byte x = nI w := by
  rw [vp_nar_byte, hx, tk_b8 w hw]
theorem tk_vbb {x : Int32} (w : Nat) (hx : x = nI w := by rfl) (hw : w < 128 := by omega) : vp_nar .byte x.toInt8.toInt32 = nI w := by
  rw [vp_nar_byte, hx, tk_b8 w hw, tk_b8 w hw]
theorem tk_vm1 : vp_nar .byte (-1) = -1 := by rw [vp_nar_byte]; decide
theorem tk_vb0 : vp_nar .boolean 0 = 0 := by decide
theorem tk_vb1 : vp_nar .boolean 1 = 1 := by decide
theorem tk_m4 (p : Nat) : 4 * nI p = nI (4 * p) := pk_mul 4 p
theorem tk_m8 (p : Nat) : 8 * nI p = nI (8 * p) := pk_mul 8 p
theorem tk_m32 (p : Nat) : 32 * nI p = nI (32 * p) := pk_mul 32 p
theorem tk_m2 (p : Nat) : 2 * nI p = nI (2 * p) := pk_mul 2 p
theorem tk_i4 (p d : Nat) : 4 * nI p + nI d = nI (4 * p + d) := by rw [tk_m4, nI_add]
theorem tk_i8 (p d : Nat) : 8 * nI p + nI d = nI (8 * p + d) := by rw [tk_m8, nI_add]
theorem tk_i32 (p d : Nat) : 32 * nI p + nI d = nI (32 * p + d) := by rw [tk_m32, nI_add]
theorem tk_s1 {n : Nat} (h : 0 < n) : nI n - 1 = nI (n - 1) := pk_sub (b := 1) h
theorem tk_ne1 {a : Nat} (h : a < 2 ^ 31) : ¬ nI a = -1 := by
  intro e
  have := nI_pos (n := a) h
  rw [e] at this
  exact this (by decide)
theorem tk_nn1 : ¬ (0 : Int32) ≤ -1 := by decide
theorem tk_n1 : (-1 : Int32) < 0 := by decide
theorem tk_inj {a b : Nat} (h : nI a = nI b) (ha : a < 2 ^ 31) (hb : b < 2 ^ 31) : a = b := (nI_eq ha hb).mp h

def tk_cn (g : Nat → Nat) (v : Nat) : Nat → Nat
  | 0 => 0
  | n + 1 => tk_cn g v n + if g n = v then 1 else 0
theorem tk_cn_s (g : Nat → Nat) (v n : Nat) : tk_cn g v (n + 1) = tk_cn g v n + if g n = v then 1 else 0 := rfl
theorem tk_cn_le (g : Nat → Nat) (v : Nat) : ∀ n, tk_cn g v n ≤ n := by
  intro n
  induction n with
  | zero => exact Nat.le_refl 0
  | succ n ih =>
    rw [tk_cn_s]
    split <;> omega
theorem tk_cn_eq {g g' : Nat → Nat} {v : Nat} : ∀ n, (∀ i, i < n → (g i = v ↔ g' i = v)) → tk_cn g v n = tk_cn g' v n := by
  intro n
  induction n with
  | zero => intro _; rfl
  | succ n ih =>
    intro h
    rw [tk_cn_s, tk_cn_s, ih (fun i hi => h i (by omega))]
    have e := h n (by omega)
    by_cases c : g n = v
    · rw [if_pos c, if_pos (e.mp c)]
    · rw [if_neg c, if_neg (fun z => c (e.mpr z))]
theorem tk_cn_pos {g : Nat → Nat} {v i : Nat} : ∀ n, i < n → g i = v → 0 < tk_cn g v n := by
  intro n
  induction n with
  | zero => intro h; omega
  | succ n ih =>
    intro h e
    rw [tk_cn_s]
    by_cases c : i = n
    · subst c; rw [if_pos e]; omega
    · have := ih (by omega) e; omega
theorem tk_cn_ex {g : Nat → Nat} {v : Nat} : ∀ n, 0 < tk_cn g v n → ∃ i, i < n ∧ g i = v := by
  intro n
  induction n with
  | zero => intro h; exact absurd h (Nat.lt_irrefl 0)
  | succ n ih =>
    intro h
    rw [tk_cn_s] at h
    by_cases c : g n = v
    · exact ⟨n, by omega, c⟩
    · rw [if_neg c] at h
      obtain ⟨i, hi, e⟩ := ih h
      exact ⟨i, by omega, e⟩
theorem tk_cn_0 {g : Nat → Nat} {v n i : Nat} (h : tk_cn g v n = 0) (hi : i < n) : g i ≠ v := by
  intro e
  have := tk_cn_pos n hi e
  omega
theorem tk_cn_no {g : Nat → Nat} {v n : Nat} (h : ∀ i, i < n → g i ≠ v) : tk_cn g v n = 0 := by
  by_cases c : 0 < tk_cn g v n
  · obtain ⟨i, hi, e⟩ := tk_cn_ex n c
    exact absurd e (h i hi)
  · omega
theorem tk_cn_nu {g : Nat → Nat} {v k x : Nat} : ∀ n, k < n → tk_cn (tk_nu g k x) v n + (if g k = v then 1 else 0) = tk_cn g v n + (if x = v then 1 else 0) := by
  intro n
  induction n with
  | zero => intro h; omega
  | succ n ih =>
    intro h
    rw [tk_cn_s, tk_cn_s]
    by_cases c : k = n
    · subst c
      rw [tk_nus, tk_cn_eq (g := tk_nu g k x) (g' := g) k (fun i hi => by rw [tk_nun (by omega)])]
      omega
    · rw [tk_nun (g := g) (k := k) (v := x) (j := n) (by omega)]
      have := ih (by omega)
      omega
theorem tk_cn_2 {g : Nat → Nat} {v i j n : Nat} (h : tk_cn g v n ≤ 1) (hi : i < n) (hj : j < n) (ei : g i = v) (ej : g j = v) : i = j := by
  by_cases c : i = j
  · exact c
  · have a := tk_cn_nu (g := g) (v := v) (k := i) (x := v + 1) n hi
    rw [if_pos ei, if_neg (by omega)] at a
    have b : 0 < tk_cn (tk_nu g i (v + 1)) v n := tk_cn_pos n hj (by rw [tk_nun (fun z => c z.symm)]; exact ej)
    omega
/-- nonzero words of an array -/
def tk_cz (a : Nat → Int32) : Nat → Nat
  | 0 => 0
  | n + 1 => tk_cz a n + if a n = 0 then 0 else 1
theorem tk_cz_s (a : Nat → Int32) (n : Nat) : tk_cz a (n + 1) = tk_cz a n + if a n = 0 then 0 else 1 := rfl
theorem tk_cz_le (a : Nat → Int32) : ∀ n, tk_cz a n ≤ n := by
  intro n
  induction n with
  | zero => exact Nat.le_refl 0
  | succ n ih =>
    rw [tk_cz_s]
    split <;> omega
theorem tk_cz_eq {a b : Nat → Int32} : ∀ n, (∀ i, i < n → a i = b i) → tk_cz a n = tk_cz b n := by
  intro n
  induction n with
  | zero => intro _; rfl
  | succ n ih =>
    intro h
    rw [tk_cz_s, tk_cz_s, ih (fun i hi => h i (by omega)), h n (by omega)]
theorem tk_cz_u {a : Nat → Int32} {k : Nat} (h : ¬ a k = 0) : ∀ n, k < n → tk_cz (upd a k 0) n + 1 = tk_cz a n := by
  intro n
  induction n with
  | zero => intro h; omega
  | succ n ih =>
    intro hk
    rw [tk_cz_s, tk_cz_s]
    by_cases c : k = n
    · subst c
      rw [pk_us, if_pos rfl, if_neg h, tk_cz_eq (a := upd a k 0) (b := a) k (fun i hi => pk_un (by omega))]
    · rw [pk_un (f := a) (k := k) (j := n) (by omega)]
      have := ih (by omega)
      omega
/-- a copy of w words -/
def tk_cp (dst src : Nat → Int32) (d s w : Nat) : Nat → Int32 := fun j => if d ≤ j ∧ j < d + w then src (s + (j - d)) else dst j
theorem tk_cp0 (dst src : Nat → Int32) (d s : Nat) : tk_cp dst src d s 0 = dst := by
  funext j
  exact if_neg (by omega)
theorem tk_cps (dst src : Nat → Int32) (d s w : Nat) : upd (tk_cp dst src d s w) (d + w) (src (s + w)) = tk_cp dst src d s (w + 1) := by
  funext j
  show (if j = d + w then src (s + w) else if d ≤ j ∧ j < d + w then src (s + (j - d)) else dst j) = (if d ≤ j ∧ j < d + (w + 1) then src (s + (j - d)) else dst j)
  by_cases c : j = d + w
  · rw [if_pos c, if_pos (by omega), c, show d + w - d = w by omega]
  · rw [if_neg c]
    by_cases e : d ≤ j ∧ j < d + w
    · rw [if_pos e, if_pos (by omega)]
    · rw [if_neg e, if_neg (by omega)]
theorem tk_cpi {dst src : Nat → Int32} {d s w i : Nat} (h : i < w) : tk_cp dst src d s w (d + i) = src (s + i) := by
  show (if d ≤ d + i ∧ d + i < d + w then src (s + (d + i - d)) else dst (d + i)) = _
  rw [if_pos (by omega), show d + i - d = i by omega]
theorem tk_cpo {dst src : Nat → Int32} {d s w j : Nat} (h : j < d ∨ d + w ≤ j) : tk_cp dst src d s w j = dst j := if_neg (by omega)
/-- one value for another in the first c places -/
def tk_re (g : Nat → Nat) (a b c : Nat) : Nat → Nat := fun j => if j < c ∧ g j = a then b else g j
theorem tk_re0 (g : Nat → Nat) (a b : Nat) : tk_re g a b 0 = g := by
  funext j
  exact if_neg (by omega)
theorem tk_rec {g : Nat → Nat} {a b c : Nat} : tk_re g a b c c = g c := if_neg (by omega)
theorem tk_ret {g : Nat → Nat} {a b c : Nat} (h : g c = a) : tk_nu (tk_re g a b c) c b = tk_re g a b (c + 1) := by
  funext j
  show (if j = c then b else if j < c ∧ g j = a then b else g j) = if j < c + 1 ∧ g j = a then b else g j
  by_cases e : j = c
  · rw [if_pos e, if_pos ⟨by omega, by rw [e]; exact h⟩]
  · rw [if_neg e]
    by_cases f : j < c ∧ g j = a
    · rw [if_pos f, if_pos ⟨by omega, f.2⟩]
    · rw [if_neg f, if_neg (fun z => f ⟨by omega, z.2⟩)]
theorem tk_ref {g : Nat → Nat} {a b c : Nat} (h : g c ≠ a) : tk_re g a b c = tk_re g a b (c + 1) := by
  funext j
  show (if j < c ∧ g j = a then b else g j) = if j < c + 1 ∧ g j = a then b else g j
  by_cases f : j < c ∧ g j = a
  · rw [if_pos f, if_pos ⟨by omega, f.2⟩]
  · rw [if_neg f, if_neg ?_]
    intro z
    by_cases e : j = c
    · subst e; exact h z.2
    · exact f ⟨by omega, z.2⟩
theorem tk_rei {g : Nat → Nat} {a b c j : Nat} (hj : j < c) (h : g j = a) : tk_re g a b c j = b := if_pos ⟨hj, h⟩
theorem tk_ren {g : Nat → Nat} {a b c j : Nat} (h : g j ≠ a) : tk_re g a b c j = g j := if_neg (fun z => h z.2)
theorem tk_cn_re {g : Nat → Nat} {a b c : Nat} (hab : a ≠ b) : ∀ n, n ≤ c → tk_cn (tk_re g a b c) a n = 0 ∧ tk_cn (tk_re g a b c) b n = tk_cn g a n + tk_cn g b n := by
  intro n
  induction n with
  | zero => intro _; exact ⟨rfl, rfl⟩
  | succ n ih =>
    intro h
    have ⟨i1, i2⟩ := ih (by omega)
    simp only [tk_cn_s]
    by_cases e : g n = a
    · rw [tk_rei (by omega) e]
      rw [if_neg (fun z => hab z.symm), if_pos rfl, if_pos e, if_neg (by omega)]
      omega
    · rw [tk_ren e, if_neg e]
      omega
theorem tk_cn_reo {g : Nat → Nat} {a b c v : Nat} (ha : v ≠ a) (hb : v ≠ b) (n : Nat) : tk_cn (tk_re g a b c) v n = tk_cn g v n := by
  apply tk_cn_eq
  intro i _
  by_cases e : i < c ∧ g i = a
  · rw [show tk_re g a b c i = b from if_pos e, e.2]
    exact ⟨fun z => absurd z.symm hb, fun z => absurd z.symm ha⟩
  · rw [show tk_re g a b c i = g i from if_neg e]
/-- twenty-four places hold at most twenty-four values -/
def tk_sm (g : Nat → Nat) (n : Nat) : Nat → Nat
  | 0 => 0
  | m + 1 => tk_sm g n m + tk_cn g (32 + m) n
theorem tk_sm_s (g : Nat → Nat) (n m : Nat) : tk_sm g n (m + 1) = tk_sm g n m + tk_cn g (32 + m) n := rfl
theorem tk_sm_n (g : Nat → Nat) (n : Nat) : ∀ m, tk_sm g (n + 1) m = tk_sm g n m + if 32 ≤ g n ∧ g n < 32 + m then 1 else 0 := by
  intro m
  induction m with
  | zero => rw [if_neg (by omega)]; rfl
  | succ m ih =>
    rw [tk_sm_s, tk_sm_s, ih, tk_cn_s]
    by_cases c : g n = 32 + m
    · rw [if_pos c, if_neg (by omega), if_pos (by omega)]; omega
    · rw [if_neg c]
      by_cases d : 32 ≤ g n ∧ g n < 32 + m
      · rw [if_pos d, if_pos (by omega)]; omega
      · rw [if_neg d, if_neg (by omega)]; omega
theorem tk_sm_le (g : Nat → Nat) {f : Nat} (hf : f < 10) (m : Nat) : ∀ n, tk_sm g n m + tk_cn g (1 + f) n ≤ n := by
  intro n
  induction n with
  | zero =>
    have : ∀ m, tk_sm g 0 m = 0 := by
      intro m
      induction m with
      | zero => rfl
      | succ m ih => rw [tk_sm_s, ih]; rfl
    rw [this m]; exact Nat.le_refl 0
  | succ n ih =>
    rw [tk_sm_n, tk_cn_s]
    by_cases d : 32 ≤ g n ∧ g n < 32 + m
    · rw [if_pos d, if_neg (by omega)]; omega
    · rw [if_neg d]
      split <;> omega
theorem tk_sm_ge {g : Nat → Nat} {n : Nat} : ∀ m, (∀ s, s < m → 0 < tk_cn g (32 + s) n) → m ≤ tk_sm g n m := by
  intro m
  induction m with
  | zero => intro _; exact Nat.zero_le _
  | succ m ih =>
    intro h
    have a := ih (fun s hs => h s (by omega))
    have b := h m (by omega)
    rw [tk_sm_s]; omega
theorem tk_room {g : Nat → Nat} {f : Nat} (hf : f < 10) (h : 0 < tk_cn g (1 + f) 24) : ¬ ∀ s, s < 24 → 0 < tk_cn g (32 + s) 24 := by
  intro z
  have a := tk_sm_ge 24 z
  have b := tk_sm_le g hf 24 24
  omega
end TKB
end
section
section TKM
variable {fq lq pn : Int32} {ex : Int64} {pr lv : Int32} {op fA fB fN st sp pa rg ds bh ps pk pw rd wr lt fr mv ol : Nat → Int32} {hd : Nat} {en sh ms : Nat → Nat}
/-- the tables' invariant -/
def tk_M (en sh ms : Nat → Nat) : Prop := (∀ j, j < 24 → en j = 0 ∨ (1 ≤ en j ∧ en j ≤ 10) ∨ (32 ≤ en j ∧ en j < 56)) ∧ (∀ f, f < 10 → sh f = tk_cn en (1 + f) 24) ∧ (∀ s, s < 24 → ms s = tk_cn en (32 + s) 24)
/-- a page's word -/
def tk_ct (en : Nat → Nat) (fr mv : Nat → Int32) (a w : Nat) : Int32 := if en a = 0 then 0 else if en a < 32 then fr (8 * (en a - 1) + w) else mv (8 * (en a - 32) + w)
/-- the pages are the same, elsewhere perhaps -/
def tk_same (en : Nat → Nat) (fr mv : Nat → Int32) (en' : Nat → Nat) (fr' mv' : Nat → Int32) : Prop := (∀ j, j < 24 → (en' j = 0 ↔ en j = 0)) ∧ ∀ j w, j < 24 → w < 8 → tk_ct en' fr' mv' j w = tk_ct en fr mv j w
theorem tk_ct0 {en : Nat → Nat} {fr mv : Nat → Int32} {a w : Nat} (h : en a = 0) : tk_ct en fr mv a w = 0 := if_pos h
theorem tk_ctf {en : Nat → Nat} {fr mv : Nat → Int32} {a w : Nat} (f : Nat) (h : en a = 1 + f) (hf : f < 10) : tk_ct en fr mv a w = fr (8 * f + w) := by
  unfold tk_ct
  rw [if_neg (by omega), if_pos (by omega), show en a - 1 = f by omega]
theorem tk_ctm {en : Nat → Nat} {fr mv : Nat → Int32} {a w : Nat} (s : Nat) (h : en a = 32 + s) : tk_ct en fr mv a w = mv (8 * s + w) := by
  unfold tk_ct
  rw [if_neg (by omega), if_neg (by omega), show en a - 32 = s by omega]
theorem tk_Mlt (hM : tk_M en sh ms) {j : Nat} (hj : j < 24) : en j < 56 := by
  have := hM.1 j hj
  omega
theorem tk_Msh (hM : tk_M en sh ms) {f : Nat} (hf : f < 10) : sh f ≤ 24 := by
  rw [hM.2.1 f hf]; exact tk_cn_le _ _ _
theorem tk_Mms (hM : tk_M en sh ms) {s : Nat} (hs : s < 24) : ms s ≤ 24 := by
  rw [hM.2.2 s hs]; exact tk_cn_le _ _ _
theorem tk_mo74 {post : SX → Prop} {f s : Nat} (hf : f < 10) (hs : s < 24) (hB : ∀ j, j < 24 → en j < 56) (h : post (fq, lq, nI hd, pn, ex, pr, lv, op, fA, fB, fN, st, sp, pa, rg, ds, bh, ps, pk, pw, rd, wr, tk_nf (tk_re en (1 + f) (32 + s) 24), tk_nf sh, lt, fr, tk_nf ms, mv, ol)) : ∀ d c, c + d = 24 → wX_moveOut_74 post (nI f) (nI s) fq lq (nI hd) pn ex pr lv (d + 1) (nI c) op fA fB fN st sp pa rg ds bh ps pk pw rd wr (tk_nf (tk_re en (1 + f) (32 + s) c)) (tk_nf sh) lt fr (tk_nf ms) mv ol := by
  intro d
  induction d with
  | zero =>
    intro c hc
    obtain rfl : c = 24 := by omega
    exact br_t (nI_le (a := 24) (b := 24) (by omega) (by decide)) h
  | succ d ih =>
    intro c hc
    have hB' := hB c (by omega)
    refine br_f (nI_ge (b := 24) (by omega) (by decide)) (And.intro (pk_in c 24 (by omega)) ?_)
    refine pk_eq (en c) (1 + f) (fun e => ?_) (fun e => ?_) ((tk_rn _ c).trans (congrArg nI tk_rec)) (nI_add 1 f)
    · refine tk_sn c (32 + s) (by omega) (nm_r (nI_1 c) ?_) rfl (tk_vbb (32 + s) (nI_add 32 s))
      rw [tk_ret e]
      exact ih (c + 1) (by omega)
    · refine nm_r (nI_1 c) ?_
      rw [tk_ref e]
      exact ih (c + 1) (by omega)
theorem tk_mo19 {post : SX → Prop} {f s : Nat} (hf : f < 10) (hs : s < 24) (hB : ∀ j, j < 24 → en j < 56) (h1 : sh f < 128) (h : post (fq, lq, nI hd, pn, ex, pr, lv, op, fA, fB, fN, st, sp, pa, rg, ds, bh, ps, pk, pw, rd, wr, tk_nf (tk_re en (1 + f) (32 + s) 24), tk_nf (tk_nu sh f 0), lt, fr, tk_nf (tk_nu ms s (sh f)), tk_cp mv fr (8 * s) (8 * f) 8, ol)) : ∀ d c, c + d = 8 → wX_moveOut_19 post (nI f) (nI s) fq lq (nI hd) pn ex pr lv (d + 1) (nI c) op fA fB fN st sp pa rg ds bh ps pk pw rd wr (tk_nf en) (tk_nf sh) lt fr (tk_nf ms) (tk_cp mv fr (8 * s) (8 * f) c) ol := by
  intro d
  induction d with
  | zero =>
    intro c hc
    obtain rfl : c = 8 := by omega
    have k := tk_mo74 hf hs hB h 24 0 rfl
    rw [tk_re0] at k
    exact br_t (nI_le (a := 8) (b := 8) (by omega) (by decide)) (And.intro (pk_in f 10 hf) (tk_sn s (sh f) hs (tk_sn f 0 hf (Exists.intro 25 k) rfl (tk_vb 0)) rfl (tk_vb (sh f) (tk_rn sh f))))
  | succ d ih =>
    intro c hc
    refine br_f (nI_ge (b := 8) (by omega) (by decide)) (And.intro (pk_in (8 * f + c) 80 (by omega) (tk_i8 f c)) (tk_st (8 * s + c) (fr (8 * f + c)) (by omega) (nm_r (nI_1 c) ?_) (tk_i8 s c) (tk_ri (8 * f + c) (tk_i8 f c))))
    rw [tk_cps]
    exact ih (c + 1) (by omega)
theorem tk_mo2 {f : Nat} (hM : tk_M en sh ms) (hf : f < 10) (hsf : 0 < sh f) : ∀ d c, c + d = 24 → (∀ j, j < c → 0 < ms j) → ∃ s, s < 24 ∧ ms s = 0 ∧ ∀ post : SX → Prop, post (fq, lq, nI hd, pn, ex, pr, lv, op, fA, fB, fN, st, sp, pa, rg, ds, bh, ps, pk, pw, rd, wr, tk_nf (tk_re en (1 + f) (32 + s) 24), tk_nf (tk_nu sh f 0), lt, fr, tk_nf (tk_nu ms s (sh f)), tk_cp mv fr (8 * s) (8 * f) 8, ol) → wX_moveOut_2 post (nI f) fq lq (nI hd) pn ex pr lv op fA fB fN st sp pa rg ds bh ps pk pw rd wr (tk_nf en) (tk_nf sh) lt fr (tk_nf ms) mv ol (d + 1) (nI c) := by
  intro d
  induction d with
  | zero =>
    intro c hc hl
    obtain rfl : c = 24 := by omega
    exact absurd (fun s hs => by rw [← hM.2.2 s hs]; exact hl s hs) (tk_room hf (by rw [← hM.2.1 f hf]; exact hsf))
  | succ d ih =>
    intro c hc hl
    have hm := tk_Mms hM (s := c) (by omega)
    have hs1 := tk_Msh hM hf
    by_cases z : ms c = 0
    · refine ⟨c, by omega, z, fun post h => And.intro (pk_in c 24 (by omega)) (pk_le (ms c) 0 (fun _ => Exists.intro 9 ?_) (fun y => absurd z (by omega)) (tk_rn ms c))⟩
      have k := tk_mo19 (s := c) hf (by omega) (fun j hj => tk_Mlt hM hj) (by omega) h 8 0 rfl
      rw [tk_cp0] at k
      exact k
    · obtain ⟨s, a1, a2, a3⟩ := ih (c + 1) (by omega) (fun j hj => by
        by_cases e : j = c
        · subst e; omega
        · exact hl j (by omega))
      exact ⟨s, a1, a2, fun post h => And.intro (pk_in c 24 (by omega)) (pk_le (ms c) 0 (fun y => absurd y (by omega)) (fun _ => nm_r (nI_1 c) (a3 post h)) (tk_rn ms c))⟩
theorem tk_mo {f : Nat} (hM : tk_M en sh ms) (hf : f < 10) (hsf : 0 < sh f) : ∃ s, s < 24 ∧ ms s = 0 ∧ ∀ post : SX → Prop, post (fq, lq, nI hd, pn, ex, pr, lv, op, fA, fB, fN, st, sp, pa, rg, ds, bh, ps, pk, pw, rd, wr, tk_nf (tk_re en (1 + f) (32 + s) 24), tk_nf (tk_nu sh f 0), lt, fr, tk_nf (tk_nu ms s (sh f)), tk_cp mv fr (8 * s) (8 * f) 8, ol) → wpX_moveOut post (fq, lq, nI hd, pn, ex, pr, lv, op, fA, fB, fN, st, sp, pa, rg, ds, bh, ps, pk, pw, rd, wr, tk_nf en, tk_nf sh, lt, fr, tk_nf ms, mv, ol) (nI f) := by
  obtain ⟨s, a1, a2, a3⟩ := tk_mo2 (fq := fq) (lq := lq) (ex := ex) (pr := pr) (lv := lv) (op := op) (fA := fA) (fB := fB) (fN := fN) (st := st) (sp := sp) (pa := pa) (rg := rg) (ds := ds) (bh := bh) (ps := ps) (pk := pk) (pw := pw) (rd := rd) (wr := wr) (ol := ol) (pn := pn) (lt := lt) (fr := fr) (mv := mv) (hd := hd) hM hf hsf 24 0 rfl (fun j hj => absurd hj (by omega))
  exact ⟨s, a1, a2, fun post h => Exists.intro 25 (a3 post h)⟩
/-- what moving out does to the tables -/
theorem tk_mo_p {f s : Nat} (hM : tk_M en sh ms) (hf : f < 10) (hs : s < 24) (hz : ms s = 0) : tk_M (tk_re en (1 + f) (32 + s) 24) (tk_nu sh f 0) (tk_nu ms s (sh f)) ∧ (∀ j, j < 24 → en j ≠ 1 + f → tk_re en (1 + f) (32 + s) 24 j = en j) ∧ (∀ j, j < 24 → en j = 1 + f → 32 ≤ tk_re en (1 + f) (32 + s) 24 j) ∧ (∀ j w, j < 24 → w < 8 → tk_ct (tk_re en (1 + f) (32 + s) 24) fr (tk_cp mv fr (8 * s) (8 * f) 8) j w = tk_ct en fr mv j w) := by
  have ⟨c1, c2⟩ := tk_cn_re (g := en) (a := 1 + f) (b := 32 + s) (c := 24) (by omega) 24 (Nat.le_refl 24)
  have hz' : tk_cn en (32 + s) 24 = 0 := by rw [← hM.2.2 s hs]; exact hz
  refine ⟨⟨fun j hj => ?_, fun g hg => ?_, fun t ht => ?_⟩, fun j _ h => tk_ren h, fun j hj h => by rw [tk_rei hj h]; omega, fun j w hj hw => ?_⟩
  · by_cases e : en j = 1 + f
    · rw [tk_rei hj e]; omega
    · rw [tk_ren e]; exact hM.1 j hj
  · by_cases e : g = f
    · subst e; rw [tk_nus, c1]
    · rw [tk_nun e, tk_cn_reo (by omega) (by omega)]; exact hM.2.1 g hg
  · by_cases e : t = s
    · subst e; rw [tk_nus, c2, hz', hM.2.1 f hf]; rfl
    · rw [tk_nun e, tk_cn_reo (by omega) (by omega)]; exact hM.2.2 t ht
  · by_cases e : en j = 1 + f
    · rw [tk_ctm s (tk_rei hj e), tk_cpi hw, tk_ctf f e hf]
    · have k := hM.1 j hj
      have r : tk_re en (1 + f) (32 + s) 24 j = en j := tk_ren e
      by_cases z : en j = 0
      · rw [tk_ct0 z, tk_ct0 (by rw [r]; exact z)]
      · by_cases y : en j ≤ 10
        · rw [tk_ctf (en j - 1) (by rw [r]; omega) (by omega), tk_ctf (en := en) (en j - 1) (by omega) (by omega)]
        · have n : en j ≠ 32 + s := tk_cn_0 hz' hj
          rw [tk_ctm (en j - 32) (by rw [r]; omega), tk_ctm (en := en) (en j - 32) (by omega), tk_cpo (by omega)]
theorem tk_cv : ∀ (n hd : Nat) (lt : Nat → Int32), hd < 10 → 2 * tk_cz lt 10 + (if nI ((hd + 1) % 10) = pn then 1 else 0) < n → ∃ (f : Nat) (lt' : Nat → Int32), f < 10 ∧ ¬ nI f = pn ∧ ∀ post : Int32 → SX → Prop, post (nI f) (fq, lq, nI f, pn, ex, pr, lv, op, fA, fB, fN, st, sp, pa, rg, ds, bh, ps, pk, pw, rd, wr, tk_nf en, tk_nf sh, lt', fr, tk_nf ms, mv, ol) → wX_chooseVictim_0 post fq lq pn ex pr lv n (nI hd) op fA fB fN st sp pa rg ds bh ps pk pw rd wr (tk_nf en) (tk_nf sh) lt fr (tk_nf ms) mv ol := by
  intro n
  induction n with
  | zero => intro hd lt _ h; omega
  | succ n ih =>
    intro hd lt h1 h2
    have e : (nI hd + 1) - (nI hd + 1) / 10 * 10 = nI ((hd + 1) % 10) := by
      rw [nI_1]
      exact pk_rem (d := 10) (by omega) (by decide) (by decide)
    have hl : (hd + 1) % 10 < 10 := by omega
    by_cases c1 : nI ((hd + 1) % 10) = pn
    · have c2 : ¬ nI (((hd + 1) % 10 + 1) % 10) = pn := by
        intro z
        have := tk_inj (z.trans c1.symm) (by omega) (by omega)
        omega
      rw [if_pos c1] at h2
      obtain ⟨f, lt', a1, a2, a3⟩ := ih ((hd + 1) % 10) lt hl (by rw [if_neg c2]; omega)
      exact ⟨f, lt', a1, a2, fun post hp => And.intro (by decide) (nm_r e (br_t c1 (a3 post hp)))⟩
    · by_cases c2 : lv < 2
      · exact ⟨(hd + 1) % 10, lt, hl, c1, fun post hp => And.intro (by decide) (nm_r e (br_f c1 (br_t c2 hp)))⟩
      · by_cases c3 : lt ((hd + 1) % 10) = 0
        · exact ⟨(hd + 1) % 10, lt, hl, c1, fun post hp => And.intro (by decide) (nm_r e (br_f c1 (br_f c2 (And.intro (pk_in _ 10 hl) (br_t ((tk_ri ((hd + 1) % 10)).trans c3) hp)))))⟩
        · have z := tk_cz_u c3 10 hl
          rw [if_neg c1] at h2
          obtain ⟨f, lt', a1, a2, a3⟩ := ih ((hd + 1) % 10) (upd lt ((hd + 1) % 10) 0) hl (by
            have : (if nI (((hd + 1) % 10 + 1) % 10) = pn then 1 else 0) ≤ 1 := by split <;> omega
            omega)
          exact ⟨f, lt', a1, a2, fun post hp => And.intro (by decide) (nm_r e (br_f c1 (br_f c2 (And.intro (pk_in _ 10 hl) (br_f (fun y => c3 ((tk_ri ((hd + 1) % 10)).symm.trans y)) (tk_st ((hd + 1) % 10) 0 hl (a3 post hp) rfl tk_vb0))))))⟩
/-- the outcome of newFrame -/
def tk_nfr (pn : Int32) (en sh ms : Nat → Nat) (fr mv : Nat → Int32) (f hd' : Nat) (en' sh' ms' : Nat → Nat) (mv' : Nat → Int32) : Prop := f < 10 ∧ hd' < 10 ∧ tk_M en' sh' ms' ∧ sh' f = 0 ∧ (∀ j, j < 24 → en j ≠ 1 + f → en' j = en j) ∧ (∀ j, j < 24 → en j = 1 + f → 32 ≤ en' j) ∧ (∀ j w, j < 24 → w < 8 → tk_ct en' fr mv' j w = tk_ct en fr mv j w) ∧ (∀ g, pn = nI g → 0 < sh g → f ≠ g)
theorem tk_nw2 (hM : tk_M en sh ms) (hh : hd < 10) : ∀ d c, c + d = 10 → (∀ j, j < c → 0 < sh j) → ∃ (f hd' : Nat) (en' sh' ms' : Nat → Nat) (lt' mv' : Nat → Int32), tk_nfr pn en sh ms fr mv f hd' en' sh' ms' mv' ∧ ∀ post : Int32 → SX → Prop, post (nI f) (fq, lq, nI hd', pn, ex, pr, lv, op, fA, fB, fN, st, sp, pa, rg, ds, bh, ps, pk, pw, rd, wr, tk_nf en', tk_nf sh', lt', fr, tk_nf ms', mv', ol) → wX_newFrame_2 post fq lq (nI hd) pn ex pr lv op fA fB fN st sp pa rg ds bh ps pk pw rd wr (tk_nf en) (tk_nf sh) lt fr (tk_nf ms) mv ol (d + 1) (nI c) := by
  intro d
  induction d with
  | zero =>
    intro c hc hl
    obtain rfl : c = 10 := by omega
    have hz := tk_cz_le lt 10
    have hi : (if nI ((hd + 1) % 10) = pn then 1 else 0) ≤ 1 := by split <;> omega
    obtain ⟨f, lt', f1, f2, f3⟩ := tk_cv (fq := fq) (lq := lq) (ex := ex) (pr := pr) (lv := lv) (op := op) (fA := fA) (fB := fB) (fN := fN) (st := st) (sp := sp) (pa := pa) (rg := rg) (ds := ds) (bh := bh) (ps := ps) (pk := pk) (pw := pw) (rd := rd) (wr := wr) (ol := ol) (pn := pn) (en := en) (sh := sh) (fr := fr) (ms := ms) (mv := mv) 22 hd lt hh (by omega)
    obtain ⟨s, s1, s2, s3⟩ := tk_mo (fq := fq) (lq := lq) (ex := ex) (pr := pr) (lv := lv) (op := op) (fA := fA) (fB := fB) (fN := fN) (st := st) (sp := sp) (pa := pa) (rg := rg) (ds := ds) (bh := bh) (ps := ps) (pk := pk) (pw := pw) (rd := rd) (wr := wr) (ol := ol) (pn := pn) (lt := lt') (fr := fr) (mv := mv) (hd := f) hM f1 (hl f f1)
    obtain ⟨p1, p2, p3, p4⟩ := tk_mo_p (fr := fr) (mv := mv) hM f1 s1 s2
    refine ⟨f, f, _, _, _, upd lt' f 1, _, ⟨f1, f1, p1, tk_nus, p2, p3, p4, fun g hg _ z => f2 (by rw [z, hg])⟩, fun post hp => br_t (nI_le (a := 10) (b := 10) (by omega) (by decide)) (Exists.intro 22 (f3 _ (s3 _ ?_)))⟩
    exact tk_st f 1 f1 hp rfl tk_vb1
  | succ d ih =>
    intro c hc hl
    have hs1 := tk_Msh hM (f := c) (by omega)
    by_cases z : sh c = 0
    · refine ⟨c, hd, en, sh, ms, upd lt c 1, mv, ⟨by omega, hh, hM, z, fun j _ _ => rfl, fun j hj e => absurd e (tk_cn_0 (by rw [← hM.2.1 c (by omega)]; exact z) hj), fun j w _ _ => rfl, fun g _ hg y => by subst y; omega⟩, fun post hp => br_f (nI_ge (b := 10) (by omega) (by decide)) (And.intro (pk_in c 10 (by omega)) (pk_le (sh c) 0 (fun _ => ?_) (fun y => absurd z (by omega)) (tk_rn sh c)))⟩
      exact tk_st c 1 (by omega) hp rfl tk_vb1
    · obtain ⟨f, hd', en', sh', ms', lt', mv', a1, a2⟩ := ih (c + 1) (by omega) (fun j hj => by
        by_cases e : j = c
        · subst e; omega
        · exact hl j (by omega))
      exact ⟨f, hd', en', sh', ms', lt', mv', a1, fun post hp => br_f (nI_ge (b := 10) (by omega) (by decide)) (And.intro (pk_in c 10 (by omega)) (pk_le (sh c) 0 (fun y => absurd y (by omega)) (fun _ => nm_r (nI_1 c) (a2 post hp)) (tk_rn sh c)))⟩
theorem tk_nw (hM : tk_M en sh ms) (hh : hd < 10) : ∃ (f hd' : Nat) (en' sh' ms' : Nat → Nat) (lt' mv' : Nat → Int32), tk_nfr pn en sh ms fr mv f hd' en' sh' ms' mv' ∧ ∀ post : Int32 → SX → Prop, post (nI f) (fq, lq, nI hd', pn, ex, pr, lv, op, fA, fB, fN, st, sp, pa, rg, ds, bh, ps, pk, pw, rd, wr, tk_nf en', tk_nf sh', lt', fr, tk_nf ms', mv', ol) → wpX_newFrame post (fq, lq, nI hd, pn, ex, pr, lv, op, fA, fB, fN, st, sp, pa, rg, ds, bh, ps, pk, pw, rd, wr, tk_nf en, tk_nf sh, lt, fr, tk_nf ms, mv, ol) := by
  obtain ⟨f, hd', en', sh', ms', lt', mv', a1, a2⟩ := tk_nw2 (fq := fq) (lq := lq) (ex := ex) (pr := pr) (lv := lv) (op := op) (fA := fA) (fB := fB) (fN := fN) (st := st) (sp := sp) (pa := pa) (rg := rg) (ds := ds) (bh := bh) (ps := ps) (pk := pk) (pw := pw) (rd := rd) (wr := wr) (ol := ol) (pn := pn) (lt := lt) (fr := fr) (mv := mv) hM hh 10 0 rfl (fun j hj => absurd hj (by omega))
  exact ⟨f, hd', en', sh', ms', lt', mv', a1, fun post h => Exists.intro 11 (a2 post h)⟩
end TKM
end
section
section TKG
variable {fq lq pn : Int32} {ex : Int64} {pr lv : Int32} {op fA fB fN st sp pa rg ds bh ps pk pw rd wr lt fr mv ol : Nat → Int32} {hd : Nat} {en sh ms : Nat → Nat}
theorem tk_fo106 {post : Int32 → SX → Prop} {f s : Nat} (hf : f < 10) (hs : s < 24) (hB : ∀ j, j < 24 → en j < 56) (h : post (nI f) (fq, lq, nI hd, pn, ex, pr, lv, op, fA, fB, fN, st, sp, pa, rg, ds, bh, ps, pk, pw, rd, wr, tk_nf (tk_re en (32 + s) (1 + f) 24), tk_nf sh, lt, fr, tk_nf ms, mv, ol)) : ∀ d c, c + d = 24 → wX_frameOf_106 post (nI s) (nI f) fq lq (nI hd) pn ex pr lv (d + 1) (nI c) op fA fB fN st sp pa rg ds bh ps pk pw rd wr (tk_nf (tk_re en (32 + s) (1 + f) c)) (tk_nf sh) lt fr (tk_nf ms) mv ol := by
  intro d
  induction d with
  | zero =>
    intro c hc
    obtain rfl : c = 24 := by omega
    exact br_t (nI_le (a := 24) (b := 24) (by omega) (by decide)) h
  | succ d ih =>
    intro c hc
    have hB' := hB c (by omega)
    refine br_f (nI_ge (b := 24) (by omega) (by decide)) (And.intro (pk_in c 24 (by omega)) ?_)
    refine pk_eq (en c) (32 + s) (fun e => ?_) (fun e => ?_) ((tk_rn _ c).trans (congrArg nI tk_rec)) (nI_add 32 s)
    · refine tk_sn c (1 + f) (by omega) (nm_r (nI_1 c) ?_) rfl (tk_vbb (1 + f) (nI_add 1 f))
      rw [tk_ret e]
      exact ih (c + 1) (by omega)
    · refine nm_r (nI_1 c) ?_
      rw [tk_ref e]
      exact ih (c + 1) (by omega)
theorem tk_fo47 {post : Int32 → SX → Prop} {f s : Nat} (hf : f < 10) (hs : s < 24) (hB : ∀ j, j < 24 → en j < 56) (h1 : ms s < 128) (h : post (nI f) (fq, lq, nI hd, pn, ex, pr, lv, op, fA, fB, fN, st, sp, pa, rg, ds, bh, ps, pk, pw, rd, wr, tk_nf (tk_re en (32 + s) (1 + f) 24), tk_nf (tk_nu sh f (ms s)), lt, tk_cp fr mv (8 * f) (8 * s) 8, tk_nf (tk_nu ms s 0), mv, ol)) : ∀ d c, c + d = 8 → wX_frameOf_47 post (nI s) (nI f) fq lq (nI hd) pn ex pr lv (d + 1) (nI c) op fA fB fN st sp pa rg ds bh ps pk pw rd wr (tk_nf en) (tk_nf sh) lt (tk_cp fr mv (8 * f) (8 * s) c) (tk_nf ms) mv ol := by
  intro d
  induction d with
  | zero =>
    intro c hc
    obtain rfl : c = 8 := by omega
    have k := tk_fo106 hf hs hB h 24 0 rfl
    rw [tk_re0] at k
    exact br_t (nI_le (a := 8) (b := 8) (by omega) (by decide)) (And.intro (pk_in s 24 hs) (tk_sn f (ms s) hf (tk_sn s 0 hs (Exists.intro 25 k) rfl (tk_vb 0)) rfl (tk_vb (ms s) (tk_rn ms s))))
  | succ d ih =>
    intro c hc
    refine br_f (nI_ge (b := 8) (by omega) (by decide)) (And.intro (pk_in (8 * s + c) 192 (by omega) (tk_i8 s c)) (tk_st (8 * f + c) (mv (8 * s + c)) (by omega) (nm_r (nI_1 c) ?_) (tk_i8 f c) (tk_ri (8 * s + c) (tk_i8 s c))))
    rw [tk_cps]
    exact ih (c + 1) (by omega)
theorem tk_fo_p {f s : Nat} (hM : tk_M en sh ms) (hf : f < 10) (hs : s < 24) (hz : sh f = 0) : tk_M (tk_re en (32 + s) (1 + f) 24) (tk_nu sh f (ms s)) (tk_nu ms s 0) ∧ tk_same en fr mv (tk_re en (32 + s) (1 + f) 24) (tk_cp fr mv (8 * f) (8 * s) 8) mv := by
  have ⟨c1, c2⟩ := tk_cn_re (g := en) (a := 32 + s) (b := 1 + f) (c := 24) (by omega) 24 (Nat.le_refl 24)
  have hz' : tk_cn en (1 + f) 24 = 0 := by rw [← hM.2.1 f hf]; exact hz
  refine ⟨⟨fun j hj => ?_, fun g hg => ?_, fun t ht => ?_⟩, fun j hj => ?_, fun j w hj hw => ?_⟩
  · by_cases e : en j = 32 + s
    · rw [tk_rei hj e]; omega
    · rw [tk_ren e]; exact hM.1 j hj
  · by_cases e : g = f
    · subst e; rw [tk_nus, c2, hz', hM.2.2 s hs]; rfl
    · rw [tk_nun e, tk_cn_reo (by omega) (by omega)]; exact hM.2.1 g hg
  · by_cases e : t = s
    · subst e; rw [tk_nus, c1]
    · rw [tk_nun e, tk_cn_reo (by omega) (by omega)]; exact hM.2.2 t ht
  · by_cases e : en j = 32 + s
    · rw [tk_rei hj e, e]; omega
    · rw [tk_ren e]
  · by_cases e : en j = 32 + s
    · rw [tk_ctf f (tk_rei hj e) hf, tk_cpi hw, tk_ctm s e]
    · have k := hM.1 j hj
      have r : tk_re en (32 + s) (1 + f) 24 j = en j := tk_ren e
      by_cases z : en j = 0
      · rw [tk_ct0 z, tk_ct0 (by rw [r]; exact z)]
      · by_cases y : en j ≤ 10
        · have n : en j ≠ 1 + f := tk_cn_0 hz' hj
          rw [tk_ctf (en j - 1) (by rw [r]; omega) (by omega), tk_ctf (en := en) (en j - 1) (by omega) (by omega), tk_cpo (by omega)]
        · rw [tk_ctm (en j - 32) (by rw [r]; omega), tk_ctm (en := en) (en j - 32) (by omega)]
theorem tk_nfr_same {f hd' : Nat} {en' sh' ms' : Nat → Nat} {mv' : Nat → Int32} (h : tk_nfr pn en sh ms fr mv f hd' en' sh' ms' mv') : tk_same en fr mv en' fr mv' := by
  obtain ⟨h1, h2, h3, h4, h5, h6, h7, h8⟩ := h
  refine ⟨fun j hj => ?_, h7⟩
  by_cases e : en j = 1 + f
  · have := h6 j hj e
    omega
  · rw [h5 j hj e]
theorem tk_same_t {en1 : Nat → Nat} {fr1 mv1 : Nat → Int32} {en2 : Nat → Nat} {fr2 mv2 : Nat → Int32} (h : tk_same en fr mv en1 fr1 mv1) (k : tk_same en1 fr1 mv1 en2 fr2 mv2) : tk_same en fr mv en2 fr2 mv2 := ⟨fun j hj => (k.1 j hj).trans (h.1 j hj), fun j w hj hw => (k.2 j w hj hw).trans (h.2 j w hj hw)⟩
theorem tk_same_r : tk_same en fr mv en fr mv := ⟨fun _ _ => Iff.rfl, fun _ _ _ _ => rfl⟩
theorem tk_fo {a : Nat} (hM : tk_M en sh ms) (hh : hd < 10) (ha : a < 24) (hne : en a ≠ 0) : ∃ (f hd' : Nat) (en' sh' ms' : Nat → Nat) (lt' fr' mv' : Nat → Int32), (f < 10 ∧ hd' < 10 ∧ tk_M en' sh' ms' ∧ tk_same en fr mv en' fr' mv' ∧ en' a = 1 + f) ∧ ∀ post : Int32 → SX → Prop, post (nI f) (fq, lq, nI hd', pn, ex, pr, lv, op, fA, fB, fN, st, sp, pa, rg, ds, bh, ps, pk, pw, rd, wr, tk_nf en', tk_nf sh', lt', fr', tk_nf ms', mv', ol) → wpX_frameOf post (fq, lq, nI hd, pn, ex, pr, lv, op, fA, fB, fN, st, sp, pa, rg, ds, bh, ps, pk, pw, rd, wr, tk_nf en, tk_nf sh, lt, fr, tk_nf ms, mv, ol) (nI a) := by
  have k := hM.1 a ha
  by_cases c : en a < 32
  · refine ⟨en a - 1, hd, en, sh, ms, upd lt (en a - 1) 1, fr, mv, ⟨by omega, hh, hM, tk_same_r, by omega⟩, fun post hp => And.intro (pk_in a 24 ha) (pk_le 32 (en a) (fun z => absurd z (by omega)) (fun _ => And.intro (pk_in a 24 ha) (nm_r (e' := nI (en a - 1)) ?_ ?_)) rfl (tk_rn en a))⟩
    · rw [tk_rn en a]; exact tk_s1 (by omega)
    · exact tk_st (en a - 1) 1 (by omega) hp rfl tk_vb1
  · obtain ⟨f, hd', en', sh', ms', lt', mv', a1, a2⟩ := tk_nw (fq := fq) (lq := lq) (ex := ex) (pr := pr) (lv := lv) (op := op) (fA := fA) (fB := fB) (fN := fN) (st := st) (sp := sp) (pa := pa) (rg := rg) (ds := ds) (bh := bh) (ps := ps) (pk := pk) (pw := pw) (rd := rd) (wr := wr) (ol := ol) (pn := pn) (lt := lt) (fr := fr) (mv := mv) hM hh
    have s1 := tk_nfr_same a1
    obtain ⟨h1, h2, h3, h4, h5, h6, h7, h8⟩ := a1
    have e1 : en' a = en a := h5 a ha (by omega)
    obtain ⟨p1, p2⟩ := tk_fo_p (fr := fr) (mv := mv') (s := en a - 32) h3 h1 (by omega) h4
    have hm := tk_Mms h3 (s := en a - 32) (by omega)
    refine ⟨f, hd', _, _, _, lt', _, mv', ⟨h1, h2, p1, tk_same_t s1 p2, tk_rei ha (by omega)⟩, fun post hp => And.intro (pk_in a 24 ha) (pk_le 32 (en a) (fun _ => And.intro (pk_in a 24 ha) (nm_r (e' := nI (en a - 32)) ?_ (a2 _ (Exists.intro 9 ?_)))) (fun z => absurd z (by omega)) rfl (tk_rn en a))⟩
    · rw [tk_rn en a]; exact pk_sub (b := 32) (by omega)
    · have k := tk_fo47 (s := en a - 32) h1 (by omega) (fun j hj => tk_Mlt h3 hj) (by omega) hp 8 0 rfl
      rw [tk_cp0] at k
      exact k
theorem tk_d8 {i : Nat} (h : i < 2 ^ 31) : nI i / 8 = nI (i / 8) := pk_div (d := 8) h (by decide) (by decide)
theorem tk_r8 {i : Nat} (h : i < 2 ^ 31) : nI i - nI i / 8 * 8 = nI (i % 8) := pk_rem (d := 8) h (by decide) (by decide)
theorem tk_at8 {p i : Nat} (h : i < 2 ^ 31) : 4 * nI p + nI i / 8 = nI (4 * p + i / 8) := by rw [tk_d8 h, tk_i4]
theorem tk_of8 {f i : Nat} (h : i < 2 ^ 31) : 8 * nI f + (nI i - nI i / 8 * 8) = nI (8 * f + i % 8) := by rw [tk_r8 h, tk_i8]
theorem tk_rw {p i : Nat} (hM : tk_M en sh ms) (hh : hd < 10) (hp : p < 6) (hi : i < 32) : ∃ (hd' : Nat) (en' sh' ms' : Nat → Nat) (lt' fr' mv' : Nat → Int32), (hd' < 10 ∧ tk_M en' sh' ms' ∧ tk_same en fr mv en' fr' mv') ∧ ∀ post : Int32 → SX → Prop, post (tk_ct en fr mv (4 * p + i / 8) (i % 8)) (fq, lq, nI hd', pn, ex, pr, lv, op, fA, fB, fN, st, sp, pa, rg, ds, bh, ps, pk, pw, rd, wr, tk_nf en', tk_nf sh', lt', fr', tk_nf ms', mv', ol) → wpX_readWord post (fq, lq, nI hd, pn, ex, pr, lv, op, fA, fB, fN, st, sp, pa, rg, ds, bh, ps, pk, pw, rd, wr, tk_nf en, tk_nf sh, lt, fr, tk_nf ms, mv, ol) (nI p) (nI i) := by
  have ha : 4 * p + i / 8 < 24 := by omega
  have hl := tk_Mlt hM ha
  by_cases z : en (4 * p + i / 8) = 0
  · refine ⟨hd, en, sh, ms, lt, fr, mv, ⟨hh, hM, tk_same_r⟩, fun post hpo => And.intro (by decide) (nm_r (tk_at8 (by omega)) (And.intro (pk_in _ 24 ha) (pk_eq (en (4 * p + i / 8)) 0 (fun _ => ?_) (fun y => absurd z y) (tk_rn en _))))⟩
    rw [tk_ct0 z] at hpo
    exact hpo
  · obtain ⟨f, hd', en', sh', ms', lt', fr', mv', ⟨h1, h2, h3, h4, h5⟩, a2⟩ := tk_fo (fq := fq) (lq := lq) (ex := ex) (pr := pr) (lv := lv) (op := op) (fA := fA) (fB := fB) (fN := fN) (st := st) (sp := sp) (pa := pa) (rg := rg) (ds := ds) (bh := bh) (ps := ps) (pk := pk) (pw := pw) (rd := rd) (wr := wr) (ol := ol) (pn := pn) (lt := lt) (fr := fr) (mv := mv) hM hh ha z
    refine ⟨hd', en', sh', ms', lt', fr', mv', ⟨h2, h3, h4⟩, fun post hpo => And.intro (by decide) (nm_r (tk_at8 (by omega)) (And.intro (pk_in _ 24 ha) (pk_eq (en (4 * p + i / 8)) 0 (fun y => absurd y z) (fun _ => a2 _ (And.intro (by decide) (And.intro (pk_in (8 * f + i % 8) 80 (by omega) (tk_of8 (by omega))) ?_))) (tk_rn en _))))⟩
    rw [← h4.2 _ _ ha (by omega), tk_ctf f h5 h1] at hpo
    rw [tk_ri (a := fr') (8 * f + i % 8) (tk_of8 (by omega))]
    exact hpo
theorem tk_hg {post : SX → Prop} {a f : Nat} (ha : a < 24) (hf : f < 10) (h : post (fq, lq, nI hd, pn, ex, pr, lv, op, fA, fB, fN, st, sp, pa, rg, ds, bh, ps, pk, pw, rd, wr, tk_nf (tk_nu en a (1 + f)), tk_nf (tk_nu sh f 1), lt, fr, tk_nf ms, mv, ol)) : wpX_hang post (fq, lq, nI hd, pn, ex, pr, lv, op, fA, fB, fN, st, sp, pa, rg, ds, bh, ps, pk, pw, rd, wr, tk_nf en, tk_nf sh, lt, fr, tk_nf ms, mv, ol) (nI a) (nI f) := tk_sn a (1 + f) ha (tk_sn f 1 hf h rfl (tk_vb 1)) rfl (tk_vbb (1 + f) (nI_add 1 f))
theorem tk_hg_p {a f : Nat} (hM : tk_M en sh ms) (ha : a < 24) (hf : f < 10) (hz : sh f = 0) (h0 : en a = 0) : tk_M (tk_nu en a (1 + f)) (tk_nu sh f 1) ms := by
  have hz' : tk_cn en (1 + f) 24 = 0 := by rw [← hM.2.1 f hf]; exact hz
  refine ⟨fun j hj => ?_, fun g hg => ?_, fun t ht => ?_⟩
  · by_cases e : j = a
    · subst e; rw [tk_nus]; omega
    · rw [tk_nun e]; exact hM.1 j hj
  · have c := tk_cn_nu (g := en) (v := 1 + g) (k := a) (x := 1 + f) 24 ha
    rw [if_neg (by omega)] at c
    by_cases e : g = f
    · subst e; rw [if_pos rfl] at c; rw [tk_nus]; omega
    · rw [if_neg (by omega)] at c; rw [tk_nun e, hM.2.1 g hg]; omega
  · have c := tk_cn_nu (g := en) (v := 32 + t) (k := a) (x := 1 + f) 24 ha
    rw [if_neg (by omega), if_neg (by omega)] at c
    rw [hM.2.2 t ht]; omega
theorem tk_hg_q {a f g : Nat} (hM : tk_M en sh ms) (ha : a < 24) (hf : f < 10) (hg : g < 10) (hfg : f ≠ g) (hz : sh g = 0) (h0 : en a = 1 + f) : tk_M (tk_nu en a (1 + g)) (tk_nu (tk_nu sh f (sh f - 1)) g 1) ms := by
  have hz' : tk_cn en (1 + g) 24 = 0 := by rw [← hM.2.1 g hg]; exact hz
  refine ⟨fun j hj => ?_, fun k hk => ?_, fun t ht => ?_⟩
  · by_cases e : j = a
    · subst e; rw [tk_nus]; omega
    · rw [tk_nun e]; exact hM.1 j hj
  · have c := tk_cn_nu (g := en) (v := 1 + k) (k := a) (x := 1 + g) 24 ha
    by_cases e : k = g
    · subst e; rw [if_neg (by omega), if_pos rfl] at c; rw [tk_nus]; omega
    · rw [if_neg (c := 1 + g = 1 + k) (by omega)] at c
      rw [tk_nun e]
      by_cases e2 : k = f
      · subst e2; rw [if_pos h0] at c; rw [tk_nus, hM.2.1 k hk]; omega
      · rw [if_neg (by omega)] at c; rw [tk_nun e2, hM.2.1 k hk]; omega
  · have c := tk_cn_nu (g := en) (v := 32 + t) (k := a) (x := 1 + g) 24 ha
    rw [if_neg (by omega), if_neg (by omega)] at c
    rw [hM.2.2 t ht]; omega
/-- a frame that nobody has is filled: the other pages stay -/
theorem tk_fresh {a g x : Nat} {fr' : Nat → Int32} (hM : tk_M en sh ms) (hg : g < 10) (hz : sh g = 0) (hfr : ∀ i, i < 8 * g ∨ 8 * g + 8 ≤ i → fr' i = fr i) : ∀ j w, j < 24 → w < 8 → j ≠ a → tk_ct (tk_nu en a x) fr' mv j w = tk_ct en fr mv j w := by
  intro j w hj hw hja
  have hz' : tk_cn en (1 + g) 24 = 0 := by rw [← hM.2.1 g hg]; exact hz
  have n : en j ≠ 1 + g := tk_cn_0 hz' hj
  have k := hM.1 j hj
  have r : tk_nu en a x j = en j := tk_nun hja
  by_cases z : en j = 0
  · rw [tk_ct0 z, tk_ct0 (by rw [r]; exact z)]
  · by_cases y : en j ≤ 10
    · rw [tk_ctf (en j - 1) (by rw [r]; omega) (by omega), tk_ctf (en := en) (en j - 1) (by omega) (by omega), hfr _ (by omega)]
    · rw [tk_ctm (en j - 32) (by rw [r]; omega), tk_ctm (en := en) (en j - 32) (by omega)]
end TKG
end
section
section TKW
variable {fq lq pn : Int32} {ex : Int64} {pr lv : Int32} {op fA fB fN st sp pa rg ds bh ps pk pw rd wr lt fr mv ol : Nat → Int32} {hd : Nat} {en sh ms : Nat → Nat}
theorem tk_ww103 {post : SX → Prop} {i f : Nat} {v : Int32} (hi : i < 32) (hf : f < 10) (h : post (fq, lq, nI hd, pn, ex, pr, lv, op, fA, fB, fN, st, sp, pa, rg, ds, bh, ps, pk, pw, rd, wr, tk_nf en, tk_nf sh, lt, upd fr (8 * f + i % 8) v, tk_nf ms, mv, ol)) : wX_writeWord_103 post (nI i) v (nI f) fq lq (nI hd) pn ex pr lv op fA fB fN st sp pa rg ds bh ps pk pw rd wr (tk_nf en) (tk_nf sh) lt fr (tk_nf ms) mv ol := And.intro (by decide) (tk_st (8 * f + i % 8) v (by omega) h (tk_of8 (by omega)))
theorem tk_ww36 {post : SX → Prop} {i f a : Nat} {v : Int32} (hi : i < 32) (hf : f < 10) (ha : a < 24) (h : post (fq, lq, nI hd, pn, ex, pr, lv, op, fA, fB, fN, st, sp, pa, rg, ds, bh, ps, pk, pw, rd, wr, tk_nf (tk_nu en a (1 + f)), tk_nf (tk_nu sh f 1), lt, upd (tk_cp fr (fun _ => 0) (8 * f) 0 8) (8 * f + i % 8) v, tk_nf ms, mv, ol)) : ∀ d c, c + d = 8 → wX_writeWord_36 post (nI i) v (nI a) (nI f) fq lq (nI hd) pn ex pr lv (d + 1) (nI (8 * f + c)) op fA fB fN st sp pa rg ds bh ps pk pw rd wr (tk_nf en) (tk_nf sh) lt (tk_cp fr (fun _ => 0) (8 * f) 0 c) (tk_nf ms) mv ol := by
  have e8 : 8 * nI f + 8 = nI (8 * f + 8) := by rw [tk_m8]; exact nI_add (8 * f) 8
  intro d
  induction d with
  | zero =>
    intro c hc
    obtain rfl : c = 8 := by omega
    refine pk_le (8 * f + 8) (8 * f + 8) (fun _ => ?_) (fun z => absurd z (by omega)) e8 rfl
    exact tk_hg ha hf (tk_ww103 hi hf h)
  | succ d ih =>
    intro c hc
    refine pk_le (8 * f + 8) (8 * f + c) (fun z => absurd z (by omega)) (fun _ => ?_) e8 rfl
    refine tk_st (8 * f + c) ((fun _ => (0 : Int32)) (0 + c)) (by omega) (nm_r (nI_1 (8 * f + c)) ?_)
    rw [tk_cps]
    exact ih (c + 1) (by omega)
theorem tk_of18 {post : Int32 → SX → Prop} {a f g : Nat} (ha : a < 24) (hf : f < 10) (hg : g < 10) (hfg : f ≠ g) (hs : sh f < 128) (hs0 : 0 < sh f) (h : post (nI g) (fq, lq, nI hd, pn, ex, pr, lv, op, fA, fB, fN, st, sp, pa, rg, ds, bh, ps, pk, pw, rd, wr, tk_nf (tk_nu en a (1 + g)), tk_nf (tk_nu (tk_nu sh f (sh f - 1)) g 1), lt, tk_cp fr fr (8 * g) (8 * f) 8, tk_nf ms, mv, ol)) : ∀ d c, c + d = 8 → wX_ownFrame_18 post (nI a) (nI f) (nI g) fq lq (nI hd) pn ex pr lv (d + 1) (nI c) op fA fB fN st sp pa rg ds bh ps pk pw rd wr (tk_nf en) (tk_nf sh) lt (tk_cp fr fr (8 * g) (8 * f) c) (tk_nf ms) mv ol := by
  intro d
  induction d with
  | zero =>
    intro c hc
    obtain rfl : c = 8 := by omega
    refine br_t (nI_le (a := 8) (b := 8) (by omega) (by decide)) (And.intro (pk_in f 10 hf) (tk_sn f (sh f - 1) hf ?_ rfl (tk_vbb (sh f - 1) (by rw [tk_rn sh f]; exact tk_s1 hs0))))
    exact tk_hg ha hg h
  | succ d ih =>
    intro c hc
    refine br_f (nI_ge (b := 8) (by omega) (by decide)) (And.intro (pk_in (8 * f + c) 80 (by omega) (tk_i8 f c)) (tk_st (8 * g + c) (fr (8 * f + c)) (by omega) (nm_r (nI_1 c) ?_) (tk_i8 g c) ((tk_ri (8 * f + c) (tk_i8 f c)).trans (tk_cpo (by omega)))))
    rw [tk_cps]
    exact ih (c + 1) (by omega)
theorem tk_of18z {post : Int32 → SX → Prop} {a f g : Nat} (ha : a < 24) (hf : f < 10) (hg : g < 10) (hfg : f ≠ g) (hs : sh f < 128) (hs0 : 0 < sh f) (h : post (nI g) (fq, lq, nI hd, pn, ex, pr, lv, op, fA, fB, fN, st, sp, pa, rg, ds, bh, ps, pk, pw, rd, wr, tk_nf (tk_nu en a (1 + g)), tk_nf (tk_nu (tk_nu sh f (sh f - 1)) g 1), lt, tk_cp fr fr (8 * g) (8 * f) 8, tk_nf ms, mv, ol)) : wX_ownFrame_18 post (nI a) (nI f) (nI g) fq lq (nI hd) pn ex pr lv 9 0 op fA fB fN st sp pa rg ds bh ps pk pw rd wr (tk_nf en) (tk_nf sh) lt fr (tk_nf ms) mv ol := by
  have k := tk_of18 ha hf hg hfg hs hs0 h 8 0 rfl
  rw [tk_cp0] at k
  exact k
theorem tk_cp42 {post : SX → Prop} {a f g : Nat} (ha : a < 24) (hf : f < 10) (hg : g < 10) (hfg : f ≠ g) (h : post (fq, lq, nI hd, pn, ex, pr, lv, op, fA, fB, fN, st, sp, pa, rg, ds, bh, ps, pk, pw, rd, wr, tk_nf (tk_nu en a (1 + g)), tk_nf (tk_nu sh g 1), lt, tk_cp fr fr (8 * g) (8 * f) 8, tk_nf ms, mv, ol)) : ∀ d c, c + d = 8 → wX_copyPage_42 post (nI a) (nI f) (nI g) fq lq (nI hd) pn ex pr lv (d + 1) (nI c) op fA fB fN st sp pa rg ds bh ps pk pw rd wr (tk_nf en) (tk_nf sh) lt (tk_cp fr fr (8 * g) (8 * f) c) (tk_nf ms) mv ol := by
  intro d
  induction d with
  | zero =>
    intro c hc
    obtain rfl : c = 8 := by omega
    refine br_t (nI_le (a := 8) (b := 8) (by omega) (by decide)) ?_
    exact tk_hg ha hg h
  | succ d ih =>
    intro c hc
    refine br_f (nI_ge (b := 8) (by omega) (by decide)) (And.intro (pk_in (8 * f + c) 80 (by omega) (tk_i8 f c)) (tk_st (8 * g + c) (fr (8 * f + c)) (by omega) (nm_r (nI_1 c) ?_) (tk_i8 g c) ((tk_ri (8 * f + c) (tk_i8 f c)).trans (tk_cpo (by omega)))))
    rw [tk_cps]
    exact ih (c + 1) (by omega)
theorem tk_cp42z {post : SX → Prop} {a f g : Nat} (ha : a < 24) (hf : f < 10) (hg : g < 10) (hfg : f ≠ g) (h : post (fq, lq, nI hd, pn, ex, pr, lv, op, fA, fB, fN, st, sp, pa, rg, ds, bh, ps, pk, pw, rd, wr, tk_nf (tk_nu en a (1 + g)), tk_nf (tk_nu sh g 1), lt, tk_cp fr fr (8 * g) (8 * f) 8, tk_nf ms, mv, ol)) : wX_copyPage_42 post (nI a) (nI f) (nI g) fq lq (nI hd) pn ex pr lv 9 0 op fA fB fN st sp pa rg ds bh ps pk pw rd wr (tk_nf en) (tk_nf sh) lt fr (tk_nf ms) mv ol := by
  have k := tk_cp42 ha hf hg hfg h 8 0 rfl
  rw [tk_cp0] at k
  exact k
theorem tk_ww36z {post : SX → Prop} {i f a : Nat} {v : Int32} (hi : i < 32) (hf : f < 10) (ha : a < 24) (h : post (fq, lq, nI hd, pn, ex, pr, lv, op, fA, fB, fN, st, sp, pa, rg, ds, bh, ps, pk, pw, rd, wr, tk_nf (tk_nu en a (1 + f)), tk_nf (tk_nu sh f 1), lt, upd (tk_cp fr (fun _ => 0) (8 * f) 0 8) (8 * f + i % 8) v, tk_nf ms, mv, ol)) : wX_writeWord_36 post (nI i) v (nI a) (nI f) fq lq (nI hd) pn ex pr lv 9 (nI (8 * f)) op fA fB fN st sp pa rg ds bh ps pk pw rd wr (tk_nf en) (tk_nf sh) lt fr (tk_nf ms) mv ol := by
  have k := tk_ww36 hi hf ha h 8 0 rfl
  rw [tk_cp0] at k
  exact k
/-- the outcome of a write: one word of one page -/
def tk_wrt (en : Nat → Nat) (fr mv : Nat → Int32) (a o : Nat) (v : Int32) (en' : Nat → Nat) (fr' mv' : Nat → Int32) : Prop := (∀ j, j < 24 → j ≠ a → (en' j = 0 ↔ en j = 0)) ∧ ∀ j w, j < 24 → w < 8 → tk_ct en' fr' mv' j w = if j = a ∧ w = o then v else tk_ct en fr mv j w
theorem tk_wrt_s {en1 : Nat → Nat} {fr1 mv1 : Nat → Int32} {en' : Nat → Nat} {fr' mv' : Nat → Int32} {a o : Nat} {v : Int32} (h : tk_same en fr mv en1 fr1 mv1) (k : tk_wrt en1 fr1 mv1 a o v en' fr' mv') : tk_wrt en fr mv a o v en' fr' mv' := by
  refine ⟨fun j hj ha => (k.1 j hj ha).trans (h.1 j hj), fun j w hj hw => ?_⟩
  rw [k.2 j w hj hw, h.2 j w hj hw]
theorem tk_wr {p i : Nat} {v : Int32} (hM : tk_M en sh ms) (hh : hd < 10) (hp : p < 6) (hi : i < 32) (hpn : pn = -1) : ∃ (hd' : Nat) (en' sh' ms' : Nat → Nat) (lt' fr' mv' : Nat → Int32), (hd' < 10 ∧ tk_M en' sh' ms' ∧ tk_wrt en fr mv (4 * p + i / 8) (i % 8) v en' fr' mv') ∧ ∀ post : SX → Prop, post (fq, lq, nI hd', pn, ex, pr, lv, op, fA, fB, fN, st, sp, pa, rg, ds, bh, ps, pk, pw, rd, wr, tk_nf en', tk_nf sh', lt', fr', tk_nf ms', mv', ol) → wpX_writeWord post (fq, lq, nI hd, pn, ex, pr, lv, op, fA, fB, fN, st, sp, pa, rg, ds, bh, ps, pk, pw, rd, wr, tk_nf en, tk_nf sh, lt, fr, tk_nf ms, mv, ol) (nI p) (nI i) v := by
  have ha : 4 * p + i / 8 < 24 := by omega
  have hl := tk_Mlt hM ha
  have ho : i % 8 < 8 := by omega
  generalize e0 : 4 * p + i / 8 = a at ha hl ⊢
  have ea : 4 * nI p + nI i / 8 = nI a := by rw [← e0]; exact tk_at8 (by omega)
  by_cases z : en a = 0
  · obtain ⟨f, hd', en', sh', ms', lt', mv', a1, a2⟩ := tk_nw (fq := fq) (lq := lq) (ex := ex) (pr := pr) (lv := lv) (op := op) (fA := fA) (fB := fB) (fN := fN) (st := st) (sp := sp) (pa := pa) (rg := rg) (ds := ds) (bh := bh) (ps := ps) (pk := pk) (pw := pw) (rd := rd) (wr := wr) (ol := ol) (pn := pn) (lt := lt) (fr := fr) (mv := mv) hM hh
    have s1 := tk_nfr_same a1
    obtain ⟨h1, h2, h3, h4, h5, h6, h7, h8⟩ := a1
    have z1 : en' a = 0 := (s1.1 a ha).mpr z
    refine ⟨hd', _, _, ms', lt', upd (tk_cp fr (fun _ => 0) (8 * f) 0 8) (8 * f + i % 8) v, mv', ⟨h2, tk_hg_p h3 ha h1 h4 z1, tk_wrt_s s1 ⟨fun j hj hja => by rw [tk_nun hja], fun j w hj hw => ?_⟩⟩, fun post hpo => And.intro (by decide) (nm_r ea (And.intro (pk_in a 24 ha) (pk_eq (en a) 0 (fun _ => a2 _ (nm_r (tk_m8 f) (Exists.intro 9 ?_))) (fun y => absurd z y) (tk_rn en a))))⟩
    · by_cases e : j = a
      · subst e
        rw [tk_ctf f tk_nus h1]
        by_cases e2 : w = i % 8
        · subst e2; rw [pk_us, if_pos ⟨rfl, rfl⟩]
        · rw [pk_un (by omega), tk_cpi hw, if_neg (fun y => e2 y.2), tk_ct0 z1]
      · rw [if_neg (fun y => e y.1)]
        exact tk_fresh h3 h1 h4 (fun q hq => by rw [pk_un (by omega), tk_cpo hq]) j w hj hw e
    · exact tk_ww36z hi h1 ha hpo
  · obtain ⟨f, hd1, en1, sh1, ms1, lt1, fr1, mv1, ⟨h1, h2, h3, h4, h5⟩, a2⟩ := tk_fo (fq := fq) (lq := lq) (ex := ex) (pr := pr) (lv := lv) (op := op) (fA := fA) (fB := fB) (fN := fN) (st := st) (sp := sp) (pa := pa) (rg := rg) (ds := ds) (bh := bh) (ps := ps) (pk := pk) (pw := pw) (rd := rd) (wr := wr) (ol := ol) (pn := pn) (lt := lt) (fr := fr) (mv := mv) hM hh ha z
    have hs := tk_Msh h3 h1
    have hs0 : 0 < sh1 f := by rw [h3.2.1 f h1]; exact tk_cn_pos 24 ha h5
    by_cases c : sh1 f ≤ 1
    · refine ⟨hd1, en1, sh1, ms1, lt1, upd fr1 (8 * f + i % 8) v, mv1, ⟨h2, h3, tk_wrt_s h4 ⟨fun j hj hja => Iff.rfl, fun j w hj hw => ?_⟩⟩, fun post hpo => And.intro (by decide) (nm_r ea (And.intro (pk_in a 24 ha) (pk_eq (en a) 0 (fun y => absurd y z) (fun _ => a2 _ (And.intro (pk_in f 10 h1) (pk_le (sh1 f) 1 (fun _ => tk_ww103 hi h1 hpo) (fun y => absurd y (by omega)) (tk_rn sh1 f)))) (tk_rn en a))))⟩
      have k := h3.1 j hj
      by_cases e : j = a
      · subst e
        rw [tk_ctf f h5 h1]
        by_cases e2 : w = i % 8
        · subst e2; rw [pk_us, if_pos ⟨rfl, rfl⟩]
        · rw [pk_un (by omega), if_neg (fun y => e2 y.2), tk_ctf f h5 h1]
      · rw [if_neg (fun y => e y.1)]
        have n : en1 j ≠ 1 + f := fun y => e (tk_cn_2 (by rw [← h3.2.1 f h1]; exact c) hj ha y h5)
        by_cases z1 : en1 j = 0
        · rw [tk_ct0 z1, tk_ct0 z1]
        · by_cases y : en1 j ≤ 10
          · rw [tk_ctf (en1 j - 1) (by omega) (by omega), tk_ctf (en1 j - 1) (by omega) (by omega), pk_un (by omega)]
          · rw [tk_ctm (en1 j - 32) (by omega), tk_ctm (en1 j - 32) (by omega)]
    · obtain ⟨g, hd2, en2, sh2, ms2, lt2, mv2, b1, b2⟩ := tk_nw (fq := fq) (lq := lq) (ex := ex) (pr := pr) (lv := lv) (op := op) (fA := fA) (fB := fB) (fN := fN) (st := st) (sp := sp) (pa := pa) (rg := rg) (ds := ds) (bh := bh) (ps := ps) (pk := pk) (pw := pw) (rd := rd) (wr := wr) (ol := ol) (pn := nI f) (lt := lt1) (fr := fr1) (mv := mv1) h3 h2
      have s1 := tk_nfr_same b1
      obtain ⟨g1, g2, g3, g4, g5, g6, g7, g8⟩ := b1
      have hgf : g ≠ f := g8 f rfl hs0
      have e2a : en2 a = 1 + f := by rw [g5 a ha (by omega)]; exact h5
      have hs2 := tk_Msh g3 h1
      have hs20 : 0 < sh2 f := by rw [g3.2.1 f h1]; exact tk_cn_pos 24 ha e2a
      have gM := tk_hg_q g3 ha h1 g1 (fun y => hgf y.symm) g4 e2a
      refine ⟨hd2, _, _, ms2, lt2, upd (tk_cp fr1 fr1 (8 * g) (8 * f) 8) (8 * g + i % 8) v, mv2, ⟨g2, gM, tk_wrt_s (tk_same_t h4 s1) ⟨fun j hj hja => by rw [tk_nun hja], fun j w hj hw => ?_⟩⟩, fun post hpo => And.intro (by decide) (nm_r ea (And.intro (pk_in a 24 ha) (pk_eq (en a) 0 (fun y => absurd y z) (fun _ => a2 _ (And.intro (pk_in f 10 h1) (pk_le (sh1 f) 1 (fun y => absurd y (by omega)) (fun _ => b2 _ (Exists.intro 9 ?_)) (tk_rn sh1 f)))) (tk_rn en a))))⟩
      · by_cases e : j = a
        · subst e
          rw [tk_ctf g tk_nus g1]
          by_cases e2 : w = i % 8
          · subst e2; rw [pk_us, if_pos ⟨rfl, rfl⟩]
          · rw [pk_un (by omega), tk_cpi hw, if_neg (fun y => e2 y.2), tk_ctf f e2a h1]
        · rw [if_neg (fun y => e y.1)]
          exact tk_fresh g3 g1 g4 (fun q hq => by rw [pk_un (by omega), tk_cpo hq]) j w hj hw e
      · subst hpn
        refine tk_of18z ha h1 g1 (fun y => hgf y.symm) (by omega) hs20 ?_
        exact tk_ww103 hi g1 hpo
theorem tk_cpy {a b : Nat} (hM : tk_M en sh ms) (hh : hd < 10) (ha : a < 24) (hb : b < 24) (hab : a ≠ b) (h0 : en b = 0) (hpn : pn = -1) : ∃ (hd' : Nat) (en' sh' ms' : Nat → Nat) (lt' fr' mv' : Nat → Int32), (hd' < 10 ∧ tk_M en' sh' ms' ∧ (∀ j, j < 24 → j ≠ b → (en' j = 0 ↔ en j = 0)) ∧ ∀ j w, j < 24 → w < 8 → tk_ct en' fr' mv' j w = if j = b then tk_ct en fr mv a w else tk_ct en fr mv j w) ∧ ∀ post : SX → Prop, post (fq, lq, nI hd', pn, ex, pr, lv, op, fA, fB, fN, st, sp, pa, rg, ds, bh, ps, pk, pw, rd, wr, tk_nf en', tk_nf sh', lt', fr', tk_nf ms', mv', ol) → wpX_copyPage post (fq, lq, nI hd, pn, ex, pr, lv, op, fA, fB, fN, st, sp, pa, rg, ds, bh, ps, pk, pw, rd, wr, tk_nf en, tk_nf sh, lt, fr, tk_nf ms, mv, ol) (nI a) (nI b) := by
  have hl := tk_Mlt hM ha
  have hn : tk_nu en b 0 = en := tk_nuk h0
  by_cases z : en a = 0
  · refine ⟨hd, en, sh, ms, lt, fr, mv, ⟨hh, hM, fun j _ _ => Iff.rfl, fun j w hj hw => ?_⟩, fun post hpo => tk_sn b 0 hb ?_ rfl (tk_vb 0)⟩
    · by_cases e : j = b
      · rw [if_pos e, e, tk_ct0 h0, tk_ct0 z]
      · rw [if_neg e]
    · rw [hn]
      exact And.intro (pk_in a 24 ha) (pk_eq (en a) 0 (fun _ => hpo) (fun y => absurd z y) (tk_rn en a))
  · obtain ⟨f, hd1, en1, sh1, ms1, lt1, fr1, mv1, ⟨h1, h2, h3, h4, h5⟩, a2⟩ := tk_fo (fq := fq) (lq := lq) (ex := ex) (pr := pr) (lv := lv) (op := op) (fA := fA) (fB := fB) (fN := fN) (st := st) (sp := sp) (pa := pa) (rg := rg) (ds := ds) (bh := bh) (ps := ps) (pk := pk) (pw := pw) (rd := rd) (wr := wr) (ol := ol) (pn := pn) (lt := lt) (fr := fr) (mv := mv) hM hh ha z
    have hs0 : 0 < sh1 f := by rw [h3.2.1 f h1]; exact tk_cn_pos 24 ha h5
    obtain ⟨g, hd2, en2, sh2, ms2, lt2, mv2, b1, b2⟩ := tk_nw (fq := fq) (lq := lq) (ex := ex) (pr := pr) (lv := lv) (op := op) (fA := fA) (fB := fB) (fN := fN) (st := st) (sp := sp) (pa := pa) (rg := rg) (ds := ds) (bh := bh) (ps := ps) (pk := pk) (pw := pw) (rd := rd) (wr := wr) (ol := ol) (pn := nI f) (lt := lt1) (fr := fr1) (mv := mv1) h3 h2
    have s1 := tk_nfr_same b1
    obtain ⟨g1, g2, g3, g4, g5, g6, g7, g8⟩ := b1
    have hgf : g ≠ f := g8 f rfl hs0
    have e2a : en2 a = 1 + f := by rw [g5 a ha (by omega)]; exact h5
    have s2 := tk_same_t h4 s1
    have e2b : en2 b = 0 := (s2.1 b hb).mpr h0
    refine ⟨hd2, _, _, ms2, lt2, tk_cp fr1 fr1 (8 * g) (8 * f) 8, mv2, ⟨g2, tk_hg_p g3 hb g1 g4 e2b, fun j hj hjb => by rw [tk_nun hjb]; exact s2.1 j hj, fun j w hj hw => ?_⟩, fun post hpo => tk_sn b 0 hb ?_ rfl (tk_vb 0)⟩
    · by_cases e : j = b
      · subst e
        rw [if_pos rfl, tk_ctf g tk_nus g1, tk_cpi hw, ← s2.2 a w ha hw, tk_ctf f e2a h1]
      · rw [if_neg e, ← s2.2 j w hj hw]
        exact tk_fresh g3 g1 g4 (fun q hq => tk_cpo hq) j w hj hw e
    · rw [hn]
      refine And.intro (pk_in a 24 ha) (pk_eq (en a) 0 (fun y => absurd y z) (fun _ => a2 _ (b2 _ (Exists.intro 9 ?_))) (tk_rn en a))
      subst hpn
      exact tk_cp42z hb h1 g1 (fun y => hgf y.symm) hpo
theorem tk_shr {a b : Nat} (hM : tk_M en sh ms) (ha : a < 24) (hb : b < 24) (hab : a ≠ b) (h0 : en b = 0) : ∃ sh' ms' : Nat → Nat, tk_M (tk_nu en b (en a)) sh' ms' ∧ ∀ post : SX → Prop, post (fq, lq, nI hd, pn, ex, pr, lv, op, fA, fB, fN, st, sp, pa, rg, ds, bh, ps, pk, pw, rd, wr, tk_nf (tk_nu en b (en a)), tk_nf sh', lt, fr, tk_nf ms', mv, ol) → wpX_sharePage post (fq, lq, nI hd, pn, ex, pr, lv, op, fA, fB, fN, st, sp, pa, rg, ds, bh, ps, pk, pw, rd, wr, tk_nf en, tk_nf sh, lt, fr, tk_nf ms, mv, ol) (nI a) (nI b) := by
  have hl := tk_Mlt hM ha
  have hk := hM.1 a ha
  have e1 : tk_nu en b (en a) a = en a := tk_nun hab
  have hj : ∀ j, j < 24 → tk_nu en b (en a) j = 0 ∨ (1 ≤ tk_nu en b (en a) j ∧ tk_nu en b (en a) j ≤ 10) ∨ (32 ≤ tk_nu en b (en a) j ∧ tk_nu en b (en a) j < 56) := by
    intro j hj
    by_cases e : j = b
    · subst e; rw [tk_nus]; exact hk
    · rw [tk_nun e]; exact hM.1 j hj
  have hr : tk_nf (tk_nu en b (en a)) (nI a).toNatClampNeg = nI (en a) := by rw [tk_rn _ a, e1]
  by_cases z : en a = 0
  · refine ⟨sh, ms, ⟨hj, fun g hg => ?_, fun t ht => ?_⟩, fun post hpo => And.intro (pk_in a 24 ha) (tk_sn b (en a) hb ?_ rfl (tk_vb (en a) (tk_rn en a)))⟩
    · have c := tk_cn_nu (g := en) (v := 1 + g) (k := b) (x := en a) 24 hb
      rw [if_neg (by omega), if_neg (by omega)] at c
      rw [hM.2.1 g hg]; omega
    · have c := tk_cn_nu (g := en) (v := 32 + t) (k := b) (x := en a) 24 hb
      rw [if_neg (by omega), if_neg (by omega)] at c
      rw [hM.2.2 t ht]; omega
    · exact And.intro (pk_in a 24 ha) (pk_lt (en a) 32 (fun _ => And.intro (pk_in a 24 ha) (pk_le (en a) 0 (fun _ => hpo) (fun y => absurd z (by omega)) hr)) (fun y => absurd y (by omega)) hr)
  · by_cases y : en a < 32
    · have hs := tk_Msh hM (f := en a - 1) (by omega)
      refine ⟨tk_nu sh (en a - 1) (sh (en a - 1) + 1), ms, ⟨hj, fun g hg => ?_, fun t ht => ?_⟩, fun post hpo => And.intro (pk_in a 24 ha) (tk_sn b (en a) hb ?_ rfl (tk_vb (en a) (tk_rn en a)))⟩
      · have c := tk_cn_nu (g := en) (v := 1 + g) (k := b) (x := en a) 24 hb
        rw [if_neg (by omega)] at c
        by_cases e : g = en a - 1
        · rw [if_pos (by omega)] at c
          rw [e, tk_nus, ← e, hM.2.1 g hg]; omega
        · rw [if_neg (by omega)] at c
          rw [tk_nun e, hM.2.1 g hg]; omega
      · have c := tk_cn_nu (g := en) (v := 32 + t) (k := b) (x := en a) 24 hb
        rw [if_neg (by omega), if_neg (by omega)] at c
        rw [hM.2.2 t ht]; omega
      · have hi : tk_nf (tk_nu en b (en a)) (nI a).toNatClampNeg - 1 = nI (en a - 1) := by rw [hr]; exact tk_s1 (by omega)
        refine And.intro (pk_in a 24 ha) (pk_lt (en a) 32 (fun _ => And.intro (pk_in a 24 ha) (pk_le (en a) 0 (fun v => absurd v (by omega)) (fun _ => And.intro (pk_in a 24 ha) (And.intro (pk_in (en a - 1) 10 (by omega) hi) (tk_sn (en a - 1) (sh (en a - 1) + 1) (by omega) hpo hi (tk_vbb (sh (en a - 1) + 1) ?_)))) hr)) (fun v => absurd v (by omega)) hr)
        rw [tk_rn sh (en a - 1) hi]; exact nI_1 _
    · have hs := tk_Mms hM (s := en a - 32) (by omega)
      refine ⟨sh, tk_nu ms (en a - 32) (ms (en a - 32) + 1), ⟨hj, fun g hg => ?_, fun t ht => ?_⟩, fun post hpo => And.intro (pk_in a 24 ha) (tk_sn b (en a) hb ?_ rfl (tk_vb (en a) (tk_rn en a)))⟩
      · have c := tk_cn_nu (g := en) (v := 1 + g) (k := b) (x := en a) 24 hb
        rw [if_neg (by omega), if_neg (by omega)] at c
        rw [hM.2.1 g hg]; omega
      · have c := tk_cn_nu (g := en) (v := 32 + t) (k := b) (x := en a) 24 hb
        rw [if_neg (by omega)] at c
        by_cases e : t = en a - 32
        · rw [if_pos (by omega)] at c
          rw [e, tk_nus, ← e, hM.2.2 t ht]; omega
        · rw [if_neg (by omega)] at c
          rw [tk_nun e, hM.2.2 t ht]; omega
      · have hi : tk_nf (tk_nu en b (en a)) (nI a).toNatClampNeg - 32 = nI (en a - 32) := by rw [hr]; exact pk_sub (b := 32) (by omega)
        refine And.intro (pk_in a 24 ha) (pk_lt (en a) 32 (fun v => absurd v (by omega)) (fun _ => And.intro (pk_in a 24 ha) (And.intro (pk_in (en a - 32) 24 (by omega) hi) (tk_sn (en a - 32) (ms (en a - 32) + 1) (by omega) hpo hi (tk_vbb (ms (en a - 32) + 1) ?_)))) hr)
        rw [tk_rn ms (en a - 32) hi]; exact nI_1 _
/-- one page given back -/
theorem tk_fp1 {p a : Nat} (hM : tk_M en sh ms) (hp : p < 6) (ha : a < 4 * p + 4) : ∃ sh' ms' : Nat → Nat, tk_M (tk_nu en a 0) sh' ms' ∧ ∀ (post : SX → Prop) (n : Nat), wX_freePages_4 post (nI p) fq lq (nI hd) pn ex pr lv n (nI (a + 1)) op fA fB fN st sp pa rg ds bh ps pk pw rd wr (tk_nf (tk_nu en a 0)) (tk_nf sh') lt fr (tk_nf ms') mv ol → wX_freePages_4 post (nI p) fq lq (nI hd) pn ex pr lv (n + 1) (nI a) op fA fB fN st sp pa rg ds bh ps pk pw rd wr (tk_nf en) (tk_nf sh) lt fr (tk_nf ms) mv ol := by
  have ha' : a < 24 := by omega
  have hl := tk_Mlt hM ha'
  have hk := hM.1 a ha'
  have e4 : 4 * nI p + 4 = nI (4 * p + 4) := by rw [tk_m4]; exact nI_add (4 * p) 4
  have hr := tk_rn (i := nI a) en a
  have hj : ∀ j, j < 24 → tk_nu en a 0 j = 0 ∨ (1 ≤ tk_nu en a 0 j ∧ tk_nu en a 0 j ≤ 10) ∨ (32 ≤ tk_nu en a 0 j ∧ tk_nu en a 0 j < 56) := by
    intro j hj
    by_cases e : j = a
    · subst e; rw [tk_nus]; exact Or.inl rfl
    · rw [tk_nun e]; exact hM.1 j hj
  have c1 := fun v => tk_cn_nu (g := en) (v := 1 + v) (k := a) (x := 0) 24 ha'
  have c2 := fun v => tk_cn_nu (g := en) (v := 32 + v) (k := a) (x := 0) 24 ha'
  by_cases z : en a = 0
  · refine ⟨sh, ms, ⟨hj, fun g hg => ?_, fun t ht => ?_⟩, fun post n h => pk_le (4 * p + 4) a (fun y => absurd y (by omega)) (fun _ => ?_) e4⟩
    · have c := c1 g
      rw [if_neg (by omega), if_neg (by omega)] at c
      rw [hM.2.1 g hg]; omega
    · have c := c2 t
      rw [if_neg (by omega), if_neg (by omega)] at c
      rw [hM.2.2 t ht]; omega
    · exact And.intro (pk_in a 24 ha') (pk_lt (en a) 32 (fun _ => And.intro (pk_in a 24 ha') (pk_le (en a) 0 (fun _ => tk_sn a 0 ha' (nm_r (nI_1 a) h) rfl (tk_vb 0)) (fun y => absurd z (by omega)) hr)) (fun y => absurd y (by omega)) hr)
  · by_cases y : en a < 32
    · have hs := tk_Msh hM (f := en a - 1) (by omega)
      have hs0 : 0 < sh (en a - 1) := by rw [hM.2.1 (en a - 1) (by omega)]; exact tk_cn_pos 24 ha' (by omega)
      refine ⟨tk_nu sh (en a - 1) (sh (en a - 1) - 1), ms, ⟨hj, fun g hg => ?_, fun t ht => ?_⟩, fun post n h => pk_le (4 * p + 4) a (fun y => absurd y (by omega)) (fun _ => ?_) e4⟩
      · have c := c1 g
        rw [if_neg (c := 0 = 1 + g) (by omega)] at c
        by_cases e : g = en a - 1
        · rw [if_pos (by omega)] at c
          rw [e, tk_nus, ← e, hM.2.1 g hg]; omega
        · rw [if_neg (by omega)] at c
          rw [tk_nun e, hM.2.1 g hg]; omega
      · have c := c2 t
        rw [if_neg (by omega), if_neg (by omega)] at c
        rw [hM.2.2 t ht]; omega
      · have hi : tk_nf en (nI a).toNatClampNeg - 1 = nI (en a - 1) := by rw [hr]; exact tk_s1 (by omega)
        refine And.intro (pk_in a 24 ha') (pk_lt (en a) 32 (fun _ => And.intro (pk_in a 24 ha') (pk_le (en a) 0 (fun v => absurd v (by omega)) (fun _ => And.intro (pk_in a 24 ha') (And.intro (pk_in (en a - 1) 10 (by omega) hi) (tk_sn (en a - 1) (sh (en a - 1) - 1) (by omega) (tk_sn a 0 ha' (nm_r (nI_1 a) h) rfl (tk_vb 0)) hi (tk_vbb (sh (en a - 1) - 1) ?_)))) hr)) (fun v => absurd v (by omega)) hr)
        rw [tk_rn sh (en a - 1) hi]; exact tk_s1 hs0
    · have hs := tk_Mms hM (s := en a - 32) (by omega)
      have hs0 : 0 < ms (en a - 32) := by rw [hM.2.2 (en a - 32) (by omega)]; exact tk_cn_pos 24 ha' (by omega)
      refine ⟨sh, tk_nu ms (en a - 32) (ms (en a - 32) - 1), ⟨hj, fun g hg => ?_, fun t ht => ?_⟩, fun post n h => pk_le (4 * p + 4) a (fun y => absurd y (by omega)) (fun _ => ?_) e4⟩
      · have c := c1 g
        rw [if_neg (by omega), if_neg (by omega)] at c
        rw [hM.2.1 g hg]; omega
      · have c := c2 t
        rw [if_neg (c := 0 = 32 + t) (by omega)] at c
        by_cases e : t = en a - 32
        · rw [if_pos (by omega)] at c
          rw [e, tk_nus, ← e, hM.2.2 t ht]; omega
        · rw [if_neg (by omega)] at c
          rw [tk_nun e, hM.2.2 t ht]; omega
      · have hi : tk_nf en (nI a).toNatClampNeg - 32 = nI (en a - 32) := by rw [hr]; exact pk_sub (b := 32) (by omega)
        refine And.intro (pk_in a 24 ha') (pk_lt (en a) 32 (fun v => absurd v (by omega)) (fun _ => And.intro (pk_in a 24 ha') (And.intro (pk_in (en a - 32) 24 (by omega) hi) (tk_sn (en a - 32) (ms (en a - 32) - 1) (by omega) (tk_sn a 0 ha' (nm_r (nI_1 a) h) rfl (tk_vb 0)) hi (tk_vbb (ms (en a - 32) - 1) ?_)))) hr)
        rw [tk_rn ms (en a - 32) hi]; exact tk_s1 hs0
def tk_z4 (g : Nat → Nat) (p : Nat) : Nat → Nat := tk_nu (tk_nu (tk_nu (tk_nu g (4 * p) 0) (4 * p + 1) 0) (4 * p + 2) 0) (4 * p + 3) 0
theorem tk_fp {p : Nat} (hM : tk_M en sh ms) (hp : p < 6) : ∃ sh' ms' : Nat → Nat, tk_M (tk_z4 en p) sh' ms' ∧ ∀ post : SX → Prop, post (fq, lq, nI hd, pn, ex, pr, lv, op, fA, fB, fN, st, sp, pa, rg, ds, bh, ps, pk, pw, rd, wr, tk_nf (tk_z4 en p), tk_nf sh', lt, fr, tk_nf ms', mv, ol) → wpX_freePages post (fq, lq, nI hd, pn, ex, pr, lv, op, fA, fB, fN, st, sp, pa, rg, ds, bh, ps, pk, pw, rd, wr, tk_nf en, tk_nf sh, lt, fr, tk_nf ms, mv, ol) (nI p) := by
  obtain ⟨s1, m1, M1, k1⟩ := tk_fp1 (fq := fq) (lq := lq) (ex := ex) (pr := pr) (lv := lv) (op := op) (fA := fA) (fB := fB) (fN := fN) (st := st) (sp := sp) (pa := pa) (rg := rg) (ds := ds) (bh := bh) (ps := ps) (pk := pk) (pw := pw) (rd := rd) (wr := wr) (ol := ol) (pn := pn) (hd := hd) (lt := lt) (fr := fr) (mv := mv) (p := p) (a := 4 * p) hM hp (by omega)
  obtain ⟨s2, m2, M2, k2⟩ := tk_fp1 (fq := fq) (lq := lq) (ex := ex) (pr := pr) (lv := lv) (op := op) (fA := fA) (fB := fB) (fN := fN) (st := st) (sp := sp) (pa := pa) (rg := rg) (ds := ds) (bh := bh) (ps := ps) (pk := pk) (pw := pw) (rd := rd) (wr := wr) (ol := ol) (pn := pn) (hd := hd) (lt := lt) (fr := fr) (mv := mv) (p := p) (a := 4 * p + 1) M1 hp (by omega)
  obtain ⟨s3, m3, M3, k3⟩ := tk_fp1 (fq := fq) (lq := lq) (ex := ex) (pr := pr) (lv := lv) (op := op) (fA := fA) (fB := fB) (fN := fN) (st := st) (sp := sp) (pa := pa) (rg := rg) (ds := ds) (bh := bh) (ps := ps) (pk := pk) (pw := pw) (rd := rd) (wr := wr) (ol := ol) (pn := pn) (hd := hd) (lt := lt) (fr := fr) (mv := mv) (p := p) (a := 4 * p + 2) M2 hp (by omega)
  obtain ⟨s4, m4, M4, k4⟩ := tk_fp1 (fq := fq) (lq := lq) (ex := ex) (pr := pr) (lv := lv) (op := op) (fA := fA) (fB := fB) (fN := fN) (st := st) (sp := sp) (pa := pa) (rg := rg) (ds := ds) (bh := bh) (ps := ps) (pk := pk) (pw := pw) (rd := rd) (wr := wr) (ol := ol) (pn := pn) (hd := hd) (lt := lt) (fr := fr) (mv := mv) (p := p) (a := 4 * p + 3) M3 hp (by omega)
  have e4 : 4 * nI p + 4 = nI (4 * p + 4) := by rw [tk_m4]; exact nI_add (4 * p) 4
  refine ⟨s4, m4, M4, fun post h => nm_r (tk_m4 p) (Exists.intro 5 (k1 post 4 (k2 post 3 (k3 post 2 (k4 post 1 ?_)))))⟩
  exact pk_le (4 * p + 4) (4 * p + 3 + 1) (fun _ => h) (fun y => absurd y (by omega)) e4
end TKW
end
section
section TKQ
variable {fq lq hd pn : Int32} {ex : Int64} {pr lv : Int32} {op fA fB fN st sp pa rg ds bh ps pk pw rd wr en sh lt fr ms mv ol : Nat → Int32}
variable {qn : Int32} {cw pm me wo fi qa : Nat → Int32}
def tk_oi : Option Nat → Int32
  | none => -1
  | some x => nI x
/-- X's chain -/
def tk_ch (bh : Nat → Int32) : List Nat → Prop
  | [] => True
  | x :: t => bh x = tk_oi t.head? ∧ tk_ch bh t
def tk_rm (p : Nat) (q : List Nat) : List Nat := q.filter (fun x => x != p)
theorem tk_rm_n (p : Nat) : tk_rm p [] = [] := rfl
theorem tk_rm_a (p : Nat) (l r : List Nat) : tk_rm p (l ++ r) = tk_rm p l ++ tk_rm p r := List.filter_append l r
theorem tk_rm_c {p x : Nat} (h : x ≠ p) (t : List Nat) : tk_rm p (x :: t) = x :: tk_rm p t := List.filter_cons_of_pos (by simp [h])
theorem tk_rm_p (p : Nat) (t : List Nat) : tk_rm p (p :: t) = tk_rm p t := List.filter_cons_of_neg (by simp)
theorem tk_rm_i {p : Nat} {q : List Nat} (h : p ∉ q) : tk_rm p q = q := by
  apply List.filter_eq_self.mpr
  intro a ha
  have : a ≠ p := fun e => h (e ▸ ha)
  simp [this]
theorem tk_rm_m {p x : Nat} {q : List Nat} : x ∈ tk_rm p q ↔ x ∈ q ∧ x ≠ p := by
  unfold tk_rm
  rw [List.mem_filter]
  simp
theorem tk_rm_d {p : Nat} {q : List Nat} (h : q.Nodup) : (tk_rm p q).Nodup := List.Nodup.sublist List.filter_sublist h
theorem tk_ch_u {bh : Nat → Int32} {y : Nat} {v : Int32} : ∀ {t : List Nat}, y ∉ t → tk_ch bh t → tk_ch (upd bh y v) t := by
  intro t
  induction t with
  | nil => intro _ _; trivial
  | cons x t ih =>
    intro h k
    have hxy : x ≠ y := by
      intro e
      subst e
      exact h List.mem_cons_self
    exact ⟨by rw [pk_un hxy]; exact k.1, ih (fun z => h (List.mem_cons_of_mem _ z)) k.2⟩
theorem tk_ch_mid {bh : Nat → Int32} {y x : Nat} {t : List Nat} : ∀ {l : List Nat}, (l ++ y :: x :: t).Nodup → tk_ch bh (l ++ y :: x :: t) → tk_ch (upd bh y (tk_oi t.head?)) (l ++ y :: t) := by
  intro l
  induction l with
  | nil =>
    intro d k
    have d1 := (List.nodup_cons.mp d).1
    exact ⟨pk_us, tk_ch_u (fun z => d1 (List.mem_cons_of_mem _ z)) k.2.2⟩
  | cons z l ih =>
    intro d k
    have d1 := (List.nodup_cons.mp d).1
    have hzy : z ≠ y := by
      intro e
      subst e
      exact d1 (List.mem_append_right _ List.mem_cons_self)
    refine ⟨?_, ih (List.nodup_cons.mp d).2 k.2⟩
    rw [pk_un hzy, k.1]
    cases l <;> rfl
theorem tk_ch_tl {bh : Nat → Int32} {r : List Nat} : ∀ {l : List Nat}, tk_ch bh (l ++ r) → tk_ch bh r := by
  intro l
  induction l with
  | nil => intro k; exact k
  | cons z l ih => intro k; exact ih k.2
theorem tk_ch_end {bh : Nat → Int32} {p y : Nat} : ∀ {l : List Nat}, (l ++ [y]).Nodup → p ∉ l ++ [y] → tk_ch bh (l ++ [y]) → tk_ch (upd (upd bh p (-1)) y (nI p)) (l ++ [y] ++ [p]) := by
  intro l
  induction l with
  | nil =>
    intro _ h _
    have hpy : p ≠ y := fun e => h (e ▸ List.mem_cons_self)
    exact ⟨pk_us, by rw [pk_un hpy]; exact pk_us, trivial⟩
  | cons z l ih =>
    intro d h k
    have d1 := (List.nodup_cons.mp d).1
    have hzy : z ≠ y := by
      intro e
      subst e
      exact d1 (List.mem_append_right _ List.mem_cons_self)
    have hzp : z ≠ p := by
      intro e
      subst e
      exact h List.mem_cons_self
    refine ⟨?_, ih (List.nodup_cons.mp d).2 (fun e => h (List.mem_cons_of_mem _ e)) k.2⟩
    rw [pk_un hzy, pk_un hzp, k.1]
    cases l <;> rfl
theorem tk_oi_s {x : Nat} (h : x < 6) : ¬ tk_oi (some x) < 0 := nI_pos (by omega)
theorem tk_snoc (q : List Nat) : q = [] ∨ ∃ l y, q = l ++ [y] := by
  rcases List.eq_nil_or_concat q with h | ⟨l, y, h⟩
  · exact Or.inl h
  · exact Or.inr ⟨l, y, by rw [h, List.concat_eq_append]⟩
/-- X: enqueue -/
theorem tk_xenq {post : SX → Prop} {q : List Nat} {p : Nat} (hp : p < 6) (hq : ∀ x, x ∈ q → x < 6) (h : ∀ bh', ((q.Nodup → p ∉ q → tk_ch bh q → tk_ch bh' (q ++ [p]))) → post (tk_oi (q ++ [p]).head?, tk_oi (q ++ [p]).getLast?, hd, pn, ex, pr, lv, op, fA, fB, fN, st, sp, pa, rg, ds, bh', ps, pk, pw, rd, wr, en, sh, lt, fr, ms, mv, ol)) : wpX_enqueue post (tk_oi q.head?, tk_oi q.getLast?, hd, pn, ex, pr, lv, op, fA, fB, fN, st, sp, pa, rg, ds, bh, ps, pk, pw, rd, wr, en, sh, lt, fr, ms, mv, ol) (nI p) := by
  have hvb : vp_nar .byte (nI p).toInt8.toInt32 = nI p := tk_vbb p
  rcases tk_snoc q with rfl | ⟨l, y, rfl⟩
  · exact tk_st p (-1) hp (br_t tk_n1 (h _ (fun _ _ _ => ⟨pk_us, trivial⟩))) rfl tk_vm1
  · have hy : y < 6 := hq y (by simp)
    have e1 : (l ++ [y]).getLast? = some y := by simp
    have e2 : (l ++ [y] ++ [p]).getLast? = some p := by simp
    have e3 : (l ++ [y] ++ [p]).head? = (l ++ [y]).head? := by cases l <;> rfl
    rw [e1]
    rw [e2, e3] at h
    refine tk_st p (-1) hp (br_f (tk_oi_s hy) (tk_st y (nI p) hy (h _ (fun d n c => tk_ch_end d n c)) rfl hvb)) rfl tk_vm1
/-- X: dequeue of a queue that isn't empty -/
theorem tk_xdeq {post : Int32 → SX → Prop} {x : Nat} {t : List Nat} (hq : ∀ y, y ∈ x :: t → y < 6) (hc : tk_ch bh (x :: t)) (h : post (nI x) (tk_oi t.head?, tk_oi t.getLast?, hd, pn, ex, pr, lv, op, fA, fB, fN, st, sp, pa, rg, ds, bh, ps, pk, pw, rd, wr, en, sh, lt, fr, ms, mv, ol)) : wpX_dequeue post (tk_oi (x :: t).head?, tk_oi (x :: t).getLast?, hd, pn, ex, pr, lv, op, fA, fB, fN, st, sp, pa, rg, ds, bh, ps, pk, pw, rd, wr, en, sh, lt, fr, ms, mv, ol) := by
  have hx : x < 6 := hq x List.mem_cons_self
  refine br_t (nI_pos' (by omega)) (tk_ld x (tk_oi t.head?) hx ?_ rfl hc.1)
  cases t with
  | nil => exact br_f tk_nn1 h
  | cons y t =>
    have hy : y < 6 := hq y (by simp)
    refine br_t (nI_pos' (by omega)) ?_
    rw [List.getLast?_cons_cons]
    exact h
theorem tk_xdeq0 {post : Int32 → SX → Prop} (h : post (-1) (-1, lq, hd, pn, ex, pr, lv, op, fA, fB, fN, st, sp, pa, rg, ds, bh, ps, pk, pw, rd, wr, en, sh, lt, fr, ms, mv, ol)) : wpX_dequeue post (-1, lq, hd, pn, ex, pr, lv, op, fA, fB, fN, st, sp, pa, rg, ds, bh, ps, pk, pw, rd, wr, en, sh, lt, fr, ms, mv, ol) := br_f tk_nn1 h
/-- X: leaveQueue -/
theorem tk_xlv7 {p : Nat} (hp : p < 6) {q : List Nat} (hq : ∀ x, x ∈ q → x < 6) (hd' : q.Nodup) (hc : tk_ch bh q) : ∀ (r l : List Nat), q = l ++ r → p ∉ l → ∃ bh', tk_ch bh' (tk_rm p q) ∧ ∀ post : SX → Prop, post (tk_oi (tk_rm p q).head?, tk_oi (tk_rm p q).getLast?, hd, pn, ex, pr, lv, op, fA, fB, fN, st, sp, pa, rg, ds, bh', ps, pk, pw, rd, wr, en, sh, lt, fr, ms, mv, ol) → wX_leaveQueue_7 post (nI p) (tk_oi q.head?) (tk_oi q.getLast?) hd pn ex pr lv op fA fB fN st sp pa rg ds bh ps pk pw rd wr en sh lt fr ms mv ol (r.length + 1) (tk_oi l.getLast?) (tk_oi r.head?) := by
  intro r
  induction r with
  | nil =>
    intro l e hl
    rw [List.append_nil] at e
    subst e
    rw [tk_rm_i hl]
    exact ⟨bh, hc, fun post h => br_t tk_n1 (br_f tk_nn1 h)⟩
  | cons x t ih =>
    intro l e hl
    have hx : x < 6 := hq x (by rw [e]; simp)
    by_cases z : x = p
    · subst z
      have d2 : x ∉ t := by
        have d := hd'
        rw [e] at d
        exact (List.nodup_cons.mp (List.nodup_append.mp d).2.1).1
      have er : tk_rm x q = l ++ t := by rw [e, tk_rm_a, tk_rm_p, tk_rm_i hl, tk_rm_i d2]
      have hxt : bh x = tk_oi t.head? := by
        have c := hc
        rw [e] at c
        exact (tk_ch_tl c).1
      have ht : vp_nar .byte (bh x) = tk_oi t.head? := by
        rw [hxt]
        cases t with
        | nil => exact tk_vm1
        | cons y t => exact tk_vb y rfl (by have := hq y (by rw [e]; simp); omega)
      rcases tk_snoc l with rfl | ⟨l0, y, rfl⟩
      · rw [er]
        subst e
        refine ⟨bh, hc.2, fun post h => br_f (tk_oi_s hx) (br_t rfl (br_t (nI_pos' (by omega)) (br_f tk_nn1 (tk_ld x (tk_oi t.head?) hx ?_ rfl hxt))))⟩
        cases t with
        | nil => exact br_t rfl h
        | cons y t =>
          have hy : y < 6 := hq y (by simp)
          refine br_f ?_ ?_
          · intro w
            rw [List.nil_append, List.getLast?_cons_cons] at w
            cases hg : (y :: t).getLast? with
            | none => simp at hg
            | some g =>
              rw [hg] at w
              have hgm : g ∈ y :: t := List.mem_of_getLast? hg
              have := tk_inj w (by have := hq g (List.mem_cons_of_mem _ hgm); omega) (by omega)
              exact d2 (this ▸ hgm)
          · rw [List.nil_append, List.getLast?_cons_cons]
            exact h
      · have hy : y < 6 := hq y (by rw [e]; simp)
        have e1 : (l0 ++ [y]).getLast? = some y := by simp
        rw [er, e1]
        subst e
        refine ⟨upd bh y (tk_oi t.head?), ?_, fun post h => br_f (tk_oi_s hx) (br_t rfl (br_t (nI_pos' (by omega)) (br_t (nI_pos' (by omega)) (And.intro (pk_in x 6 hx) (tk_st y (tk_oi t.head?) hy ?_ rfl ((congrArg (vp_nar .byte) (tk_ri x)).trans ht))))))⟩
        · rw [List.append_assoc] at hc hd' ⊢
          exact tk_ch_mid hd' hc
        · have e3 : (l0 ++ [y] ++ x :: t).head? = (l0 ++ [y] ++ t).head? := by cases l0 <;> rfl
          rw [e3]
          cases t with
          | nil =>
            rw [List.append_nil, e1] at h
            rw [List.append_nil]
            refine br_t ?_ h
            simp
            rfl
          | cons w t =>
            refine br_f ?_ ?_
            · intro v
              rw [List.getLast?_append, List.getLast?_cons_cons] at v
              cases hg : (w :: t).getLast? with
              | none => simp at hg
              | some g =>
                rw [hg] at v
                have hgm : g ∈ w :: t := List.mem_of_getLast? hg
                have := tk_inj v (by have := hq g (List.mem_append_right _ (List.mem_cons_of_mem _ hgm)); omega) (by omega)
                exact d2 (this ▸ hgm)
            · rw [List.getLast?_append, List.getLast?_cons_cons]
              rw [List.getLast?_append] at h
              exact h
    · have hxt : bh x = tk_oi t.head? := by
        have c := hc
        rw [e] at c
        exact (tk_ch_tl c).1
      obtain ⟨bh', c1, c2⟩ := ih (l ++ [x]) (by rw [e]; simp) (fun w => by
        rcases List.mem_append.mp w with w | w
        · exact hl w
        · exact z (List.mem_singleton.mp w).symm)
      refine ⟨bh', c1, fun post h => ?_⟩
      have k := c2 post h
      rw [show (l ++ [x]).getLast? = some x by simp] at k
      exact br_f (tk_oi_s hx) (br_f (fun w => z (tk_inj w (by omega) (by omega))) (tk_ld x (tk_oi t.head?) hx k rfl hxt))
theorem tk_xlv {p : Nat} (hp : p < 6) {q : List Nat} (hq : ∀ x, x ∈ q → x < 6) (hd' : q.Nodup) (hc : tk_ch bh q) : ∃ bh', tk_ch bh' (tk_rm p q) ∧ ∀ post : SX → Prop, post (tk_oi (tk_rm p q).head?, tk_oi (tk_rm p q).getLast?, hd, pn, ex, pr, lv, op, fA, fB, fN, st, sp, pa, rg, ds, bh', ps, pk, pw, rd, wr, en, sh, lt, fr, ms, mv, ol) → wpX_leaveQueue post (tk_oi q.head?, tk_oi q.getLast?, hd, pn, ex, pr, lv, op, fA, fB, fN, st, sp, pa, rg, ds, bh, ps, pk, pw, rd, wr, en, sh, lt, fr, ms, mv, ol) (nI p) := by
  obtain ⟨bh', c1, c2⟩ := tk_xlv7 (hd := hd) (pn := pn) (ex := ex) (pr := pr) (lv := lv) (op := op) (fA := fA) (fB := fB) (fN := fN) (st := st) (sp := sp) (pa := pa) (rg := rg) (ds := ds) (ps := ps) (pk := pk) (pw := pw) (rd := rd) (wr := wr) (en := en) (sh := sh) (lt := lt) (fr := fr) (ms := ms) (mv := mv) (ol := ol) hp hq hd' hc q [] rfl (by simp)
  exact ⟨bh', c1, fun post h => Exists.intro (q.length + 1) (c2 post h)⟩
/-- Y's queue -/
def tk_qa (qa : Nat → Int32) (q : List Nat) : Prop := ∀ i x, q[i]? = some x → qa i = nI x
theorem tk_qa_a {qa : Nat → Int32} {q : List Nat} {p : Nat} (h : tk_qa qa q) : tk_qa (upd qa q.length (nI p)) (q ++ [p]) := by
  intro i x e
  by_cases c : i < q.length
  · rw [List.getElem?_append_left c] at e
    rw [pk_un (by omega)]
    exact h i x e
  · rw [List.getElem?_append_right (by omega)] at e
    by_cases d : i = q.length
    · subst d
      simp at e
      rw [pk_us, e]
    · have : i - q.length ≠ 0 := by omega
      cases hk : i - q.length with
      | zero => omega
      | succ k => rw [hk] at e; simp at e
theorem tk_len6 : ∀ (n : Nat) (q : List Nat), (∀ x, x ∈ q → x < n) → q.Nodup → q.length ≤ n := by
  intro n
  induction n with
  | zero =>
    intro q h _
    cases q with
    | nil => exact Nat.le_refl 0
    | cons x t => exact absurd (h x List.mem_cons_self) (by omega)
  | succ n ih =>
    intro q h d
    by_cases c : n ∈ q
    · obtain ⟨l, r, rfl⟩ := List.append_of_mem c
      have d2 := List.nodup_append.mp d
      have d3 := List.nodup_cons.mp d2.2.1
      have hm : ∀ x, x ∈ l ++ r → x < n := by
        intro x hx
        have hx1 : x < n + 1 := h x (by
          rcases List.mem_append.mp hx with w | w
          · exact List.mem_append_left _ w
          · exact List.mem_append_right _ (List.mem_cons_of_mem _ w))
        have hx2 : x ≠ n := by
          intro e
          subst e
          rcases List.mem_append.mp hx with w | w
          · exact d2.2.2 x w x List.mem_cons_self rfl
          · exact d3.1 w
        omega
      have hd2 : (l ++ r).Nodup := by
        refine List.nodup_append.mpr ⟨d2.1, d3.2, fun a ha b hb => d2.2.2 a ha b (List.mem_cons_of_mem _ hb)⟩
      have := ih (l ++ r) hm hd2
      simp at this ⊢
      omega
    · have := ih q (fun x hx => by
        have := h x hx
        have : x ≠ n := fun e => c (e ▸ hx)
        omega) d
      omega
theorem tk_yjoin {post : SY → Prop} {st : Nat → Nat} {q : List Nat} {p : Nat} (hp : p < 6) (hl : q.length < 7) (h : post (nI (q ++ [p]).length, ex, pr, cw, fN, tk_nf (tk_nu st p 1), pm, sp, rg, ds, me, wo, fi, upd qa q.length (nI p), ol)) : wpY_join post (nI q.length, ex, pr, cw, fN, tk_nf st, pm, sp, rg, ds, me, wo, fi, qa, ol) (nI p) := by
  refine tk_sn p 1 hp (tk_st q.length (nI p) hl (nm_r (e' := nI (q ++ [p]).length) ?_ h))
  rw [List.length_append]
  exact nI_1 _
theorem tk_ylv4 {p : Nat} (hp : p < 6) {q : List Nat} (hq : ∀ x, x ∈ q → x < 6) (hl : q.length < 7) : ∀ (r l : List Nat) (qa : Nat → Int32), q = l ++ r → tk_qa qa (tk_rm p l) → (∀ i x, r[i]? = some x → qa (l.length + i) = nI x) → ∃ qa', tk_qa qa' (tk_rm p q) ∧ ∀ post : SY → Prop, post (nI (tk_rm p q).length, ex, pr, cw, fN, st, pm, sp, rg, ds, me, wo, fi, qa', ol) → wY_leave_4 post (nI p) (nI q.length) ex pr (r.length + 1) (nI (tk_rm p l).length) (nI l.length) cw fN st pm sp rg ds me wo fi qa ol := by
  intro r
  induction r with
  | nil =>
    intro l qa e h1 h2
    rw [List.append_nil] at e
    subst e
    exact ⟨qa, h1, fun post h => br_t (nI_le (Nat.le_refl _) (by omega)) h⟩
  | cons x t ih =>
    intro l qa e h1 h2
    have hx : x < 6 := hq x (by rw [e]; simp)
    have hlen : q.length = l.length + t.length + 1 := by rw [e]; simp; omega
    have hk : (tk_rm p l).length ≤ l.length := List.length_filter_le _ _
    have hr : qa l.length = nI x := h2 0 x rfl
    by_cases z : x = p
    · subst z
      have er : tk_rm x (l ++ [x]) = tk_rm x l := by rw [tk_rm_a, tk_rm_p, tk_rm_n, List.append_nil]
      obtain ⟨qa', c1, c2⟩ := ih (l ++ [x]) qa (by rw [e]; simp) (by rw [er]; exact h1) (fun i y hy => by
        rw [List.length_append, List.length_singleton, Nat.add_assoc, Nat.add_comm 1 i]
        exact h2 (i + 1) y hy)
      refine ⟨qa', c1, fun post h => ?_⟩
      have k := c2 post h
      rw [er, List.length_append] at k
      exact br_f (nI_ge (by omega) (by omega)) (And.intro (pk_in l.length 7 (by omega)) (br_t ((tk_ri l.length).trans hr) (nm_r (nI_1 _) k)))
    · have er : tk_rm p (l ++ [x]) = tk_rm p l ++ [x] := by rw [tk_rm_a, tk_rm_c z, tk_rm_n]
      obtain ⟨qa', c1, c2⟩ := ih (l ++ [x]) (upd qa (tk_rm p l).length (nI x)) (by rw [e]; simp) (by rw [er]; exact tk_qa_a h1) (fun i y hy => by
        rw [List.length_append, List.length_singleton, Nat.add_assoc, Nat.add_comm 1 i, pk_un (by omega)]
        exact h2 (i + 1) y hy)
      refine ⟨qa', c1, fun post h => ?_⟩
      have k := c2 post h
      rw [er, List.length_append, List.length_append] at k
      exact br_f (nI_ge (by omega) (by omega)) (And.intro (pk_in l.length 7 (by omega)) (br_f (fun w => z (tk_inj (((tk_ri l.length).trans hr).symm.trans w) (by omega) (by omega))) (And.intro (pk_in l.length 7 (by omega)) (tk_st (tk_rm p l).length (nI x) (by omega) (nm_r (nI_1 _) (nm_r (nI_1 _) k)) rfl ((tk_ri l.length).trans hr)))))
theorem tk_ylv {p : Nat} (hp : p < 6) {q : List Nat} (hq : ∀ x, x ∈ q → x < 6) (hl : q.length < 7) (h : tk_qa qa q) : ∃ qa', tk_qa qa' (tk_rm p q) ∧ ∀ post : SY → Prop, post (nI (tk_rm p q).length, ex, pr, cw, fN, st, pm, sp, rg, ds, me, wo, fi, qa', ol) → wpY_leave post (nI q.length, ex, pr, cw, fN, st, pm, sp, rg, ds, me, wo, fi, qa, ol) (nI p) := by
  obtain ⟨qa', c1, c2⟩ := tk_ylv4 (ex := ex) (pr := pr) (cw := cw) (fN := fN) (st := st) (pm := pm) (sp := sp) (rg := rg) (ds := ds) (me := me) (wo := wo) (fi := fi) (ol := ol) hp hq hl q [] qa rfl (fun i x e => by simp [tk_rm] at e) (fun i x e => by rw [List.length_nil, Nat.zero_add]; exact h i x e)
  exact ⟨qa', c1, fun post h => Exists.intro (q.length + 1) (c2 post h)⟩
end TKQ
end
section
section TKR
variable {fq lq hd pn : Int32} {ex : Int64} {pr lv : Int32} {op fA fB fN sp pa rg bh ps pk pw en sh lt fr ms mv ol : Nat → Int32} {st ds rd wr : Nat → Nat}
variable {qn py : Int32} {ey : Int64} {cw pm me wo fi qa fy sy gy oy : Nat → Int32}
theorem tk_fr2 (hst : ∀ j, st j ≤ 3) : ∀ d c, c + d = 6 → ∃ r : Int32, (r = -1 ∨ ∃ p, p < 6 ∧ r = nI p ∧ st p = 0) ∧ (∀ post : Int32 → Prop, post r → wX_freeProcess_2 post fq lq hd pn ex pr lv op fA fB fN (tk_nf st) sp pa rg (tk_nf ds) bh ps pk pw (tk_nf rd) (tk_nf wr) en sh lt fr ms mv ol (d + 1) (nI c)) ∧ (∀ post : Int32 → Prop, post r → wY_smallestFree_2 post qn ey py cw fy (tk_nf st) pm sy gy (tk_nf ds) me wo fi qa oy (d + 1) (nI c)) := by
  intro d
  induction d with
  | zero =>
    intro c hc
    obtain rfl : c = 6 := by omega
    exact ⟨-1, Or.inl rfl, fun _ hp => br_t (nI_le (a := 6) (b := 6) (by omega) (by decide)) hp, fun _ hp => br_t (nI_le (a := 6) (b := 6) (by omega) (by decide)) hp⟩
  | succ d ih =>
    intro c hc
    have h3 := hst c
    have hg := nI_ge (a := c) (b := 6) (by omega) (by decide)
    have hi : vp_in (nI c) 6 := vp_in_nI (by omega) (by decide)
    by_cases z : st c = 0
    · exact ⟨nI c, Or.inr ⟨c, by omega, rfl, z⟩, fun _ hp => br_f hg (And.intro hi (pk_eq (st c) 0 (fun _ => hp) (fun y => absurd z y) (tk_rn st c))), fun _ hp => br_f hg (And.intro hi (pk_eq (st c) 0 (fun _ => hp) (fun y => absurd z y) (tk_rn st c)))⟩
    · obtain ⟨r, h1, hX, hY⟩ := ih (c + 1) (by omega)
      exact ⟨r, h1, fun post hp => br_f hg (And.intro hi (pk_eq (st c) 0 (fun y => absurd y z) (fun _ => nm_r (nI_1 c) (hX post hp)) (tk_rn st c))), fun post hp => br_f hg (And.intro hi (pk_eq (st c) 0 (fun y => absurd y z) (fun _ => nm_r (nI_1 c) (hY post hp)) (tk_rn st c)))⟩
/-- the free process, for both -/
theorem tk_free (hst : ∀ j, st j ≤ 3) : ∃ r : Int32, (r = -1 ∨ ∃ p, p < 6 ∧ r = nI p ∧ st p = 0) ∧ (∀ post : Int32 → Prop, post r → wpX_freeProcess post (fq, lq, hd, pn, ex, pr, lv, op, fA, fB, fN, tk_nf st, sp, pa, rg, tk_nf ds, bh, ps, pk, pw, tk_nf rd, tk_nf wr, en, sh, lt, fr, ms, mv, ol)) ∧ (∀ post : Int32 → Prop, post r → wpY_smallestFree post (qn, ey, py, cw, fy, tk_nf st, pm, sy, gy, tk_nf ds, me, wo, fi, qa, oy)) := by
  obtain ⟨r, h1, hX, hY⟩ := tk_fr2 (fq := fq) (lq := lq) (hd := hd) (pn := pn) (ex := ex) (pr := pr) (lv := lv) (op := op) (fA := fA) (fB := fB) (fN := fN) (sp := sp) (rg := rg) (bh := bh) (ps := ps) (pk := pk) (pw := pw) (en := en) (sh := sh) (lt := lt) (fr := fr) (ms := ms) (mv := mv) (ol := ol) (pa := pa) (ds := ds) (rd := rd) (wr := wr) (qn := qn) (ey := ey) (py := py) (cw := cw) (fy := fy) (pm := pm) (sy := sy) (gy := gy) (me := me) (wo := wo) (fi := fi) (qa := qa) (oy := oy) hst 6 0 rfl
  exact ⟨r, h1, fun post hp => Exists.intro 7 (hX post hp), fun post hp => Exists.intro 7 (hY post hp)⟩
/-! children -/
theorem tk_hc2 (hst : ∀ j, st j ≤ 3) {x : Int32} : ∀ d c, c + d = 6 → ∃ r : Int32, ((r = 1 ∧ ∃ j, j < 6 ∧ st j ≠ 0 ∧ pa j = x) ∨ (r = 0 ∧ ∀ j, c ≤ j → j < 6 → ¬ (st j ≠ 0 ∧ pa j = x))) ∧ (∀ post : Int32 → Prop, post r → wX_hasChild_2 post x fq lq hd pn ex pr lv op fA fB fN (tk_nf st) sp pa rg (tk_nf ds) bh ps pk pw (tk_nf rd) (tk_nf wr) en sh lt fr ms mv ol (d + 1) (nI c)) := by
  intro d
  induction d with
  | zero =>
    intro c hc
    obtain rfl : c = 6 := by omega
    exact ⟨0, Or.inr ⟨rfl, fun j _ _ => by omega⟩, fun _ hp => br_t (nI_le (a := 6) (b := 6) (by omega) (by decide)) hp⟩
  | succ d ih =>
    intro c hc
    have h3 := hst c
    have hg := nI_ge (a := c) (b := 6) (by omega) (by decide)
    have hi : vp_in (nI c) 6 := vp_in_nI (by omega) (by decide)
    obtain ⟨r, h1, hX⟩ := ih (c + 1) (by omega)
    by_cases z : st c = 0
    · refine ⟨r, ?_, fun post hp => br_f hg (And.intro hi (pk_eq (st c) 0 (fun _ => nm_r (nI_1 c) (hX post hp)) (fun y => absurd z y) (tk_rn st c)))⟩
      rcases h1 with h1 | ⟨h1, h2⟩
      · exact Or.inl h1
      · refine Or.inr ⟨h1, fun j hj hj6 => ?_⟩
        by_cases e : j = c
        · subst e; exact fun w => w.1 z
        · exact h2 j (by omega) hj6
    · by_cases y : pa c = x
      · exact ⟨1, Or.inl ⟨rfl, c, by omega, z, y⟩, fun post hp => br_f hg (And.intro hi (pk_eq (st c) 0 (fun w => absurd w z) (fun _ => And.intro hi (br_t ((tk_ri c).trans y) hp)) (tk_rn st c)))⟩
      · refine ⟨r, ?_, fun post hp => br_f hg (And.intro hi (pk_eq (st c) 0 (fun w => absurd w z) (fun _ => And.intro hi (br_f (fun w => y ((tk_ri c).symm.trans w)) (nm_r (nI_1 c) (hX post hp)))) (tk_rn st c)))⟩
        rcases h1 with h1 | ⟨h1, h2⟩
        · exact Or.inl h1
        · refine Or.inr ⟨h1, fun j hj hj6 => ?_⟩
          by_cases e : j = c
          · subst e; exact fun w => y w.2
          · exact h2 j (by omega) hj6
theorem tk_ec2 (hst : ∀ j, st j ≤ 3) {x : Int32} : ∀ d c, c + d = 6 → ∃ r : Int32, ((∃ j, j < 6 ∧ r = nI j ∧ (st j = 3 ∧ pa j = x) ∧ ∀ i, c ≤ i → i < j → ¬ (st i = 3 ∧ pa i = x)) ∨ (r = -1 ∧ ∀ j, c ≤ j → j < 6 → ¬ (st j = 3 ∧ pa j = x))) ∧ (∀ post : Int32 → Prop, post r → wX_endedChild_2 post x fq lq hd pn ex pr lv op fA fB fN (tk_nf st) sp pa rg (tk_nf ds) bh ps pk pw (tk_nf rd) (tk_nf wr) en sh lt fr ms mv ol (d + 1) (nI c)) := by
  intro d
  induction d with
  | zero =>
    intro c hc
    obtain rfl : c = 6 := by omega
    exact ⟨-1, Or.inr ⟨rfl, fun j _ _ => by omega⟩, fun _ hp => br_t (nI_le (a := 6) (b := 6) (by omega) (by decide)) hp⟩
  | succ d ih =>
    intro c hc
    have h3 := hst c
    have hg := nI_ge (a := c) (b := 6) (by omega) (by decide)
    have hi : vp_in (nI c) 6 := vp_in_nI (by omega) (by decide)
    obtain ⟨r, h1, hX⟩ := ih (c + 1) (by omega)
    by_cases z : st c = 3
    · by_cases y : pa c = x
      · exact ⟨nI c, Or.inl ⟨c, by omega, rfl, ⟨z, y⟩, fun i _ _ => by omega⟩, fun post hp => br_f hg (And.intro hi (pk_eq (st c) 3 (fun _ => And.intro hi (br_t ((tk_ri c).trans y) hp)) (fun w => absurd z w) (tk_rn st c)))⟩
      · refine ⟨r, ?_, fun post hp => br_f hg (And.intro hi (pk_eq (st c) 3 (fun _ => And.intro hi (br_f (fun w => y ((tk_ri c).symm.trans w)) (nm_r (nI_1 c) (hX post hp)))) (fun w => absurd z w) (tk_rn st c)))⟩
        rcases h1 with ⟨j, j1, j2, j3, j4⟩ | ⟨h1, h2⟩
        · refine Or.inl ⟨j, j1, j2, j3, fun i hi hij => ?_⟩
          by_cases e : i = c
          · subst e; exact fun w => y w.2
          · exact j4 i (by omega) hij
        · refine Or.inr ⟨h1, fun j hj hj6 => ?_⟩
          by_cases e : j = c
          · subst e; exact fun w => y w.2
          · exact h2 j (by omega) hj6
    · refine ⟨r, ?_, fun post hp => br_f hg (And.intro hi (pk_eq (st c) 3 (fun w => absurd w z) (fun _ => nm_r (nI_1 c) (hX post hp)) (tk_rn st c)))⟩
      rcases h1 with ⟨j, j1, j2, j3, j4⟩ | ⟨h1, h2⟩
      · refine Or.inl ⟨j, j1, j2, j3, fun i hi hij => ?_⟩
        by_cases e : i = c
        · subst e; exact fun w => z w.1
        · exact j4 i (by omega) hij
      · refine Or.inr ⟨h1, fun j hj hj6 => ?_⟩
        by_cases e : j = c
        · subst e; exact fun w => z w.1
        · exact h2 j (by omega) hj6
/-- what Y's loop has found in c .. 5 -/
def tk_F (st : Nat → Nat) (pa : Nat → Int32) (x : Int32) (c : Nat) (r : Int32) : Prop := (∃ j, c ≤ j ∧ j < 6 ∧ r = nI j ∧ (st j = 3 ∧ pa j = x) ∧ ∀ i, c ≤ i → i < j → ¬ (st i = 3 ∧ pa i = x)) ∨ (r = -1 ∧ (∀ j, c ≤ j → j < 6 → ¬ (st j = 3 ∧ pa j = x)) ∧ ∃ j, j < 6 ∧ st j ≠ 0 ∧ pa j = x) ∨ (r = -2 ∧ ∀ j, c ≤ j → j < 6 → ¬ (st j ≠ 0 ∧ pa j = x))
theorem tk_F_skip {pa : Nat → Int32} {x r : Int32} {c : Nat} (h : tk_F st pa x (c + 1) r) (hn : ¬ (st c ≠ 0 ∧ pa c = x)) : tk_F st pa x c r := by
  rcases h with ⟨j, j0, j1, j2, j3, j4⟩ | ⟨h1, h2, h3⟩ | ⟨h1, h2⟩
  · refine Or.inl ⟨j, by omega, j1, j2, j3, fun i hi hij => ?_⟩
    by_cases e : i = c
    · subst e; exact fun w => hn ⟨by omega, w.2⟩
    · exact j4 i (by omega) hij
  · refine Or.inr (Or.inl ⟨h1, fun j hj hj6 => ?_, h3⟩)
    by_cases e : j = c
    · subst e; exact fun w => hn ⟨by omega, w.2⟩
    · exact h2 j (by omega) hj6
  · refine Or.inr (Or.inr ⟨h1, fun j hj hj6 => ?_⟩)
    by_cases e : j = c
    · subst e; exact hn
    · exact h2 j (by omega) hj6
theorem tk_yec (hst : ∀ j, st j ≤ 3) (hpm : ∀ j, j < 6 → st j ≠ 0 → pm j = pa j) {x : Int32} : ∀ c, c ≤ 6 → ∀ f, tk_F st pa x c f → ∃ r : Int32, tk_F st pa x 0 r ∧ ∀ post : Int32 → Prop, post r → wY_endedChild_5 post x qn ey py cw fy (tk_nf st) pm sy gy (tk_nf ds) me wo fi qa oy (c + 1) f (nI c + (-1)) := by
  intro c
  induction c with
  | zero => intro _ f hf; exact ⟨f, hf, fun post hp => br_t (by decide) hp⟩
  | succ c ih =>
    intro hc f hf
    rw [pk_m1]
    have h3 := hst c
    have hg : ¬ nI c < 0 := nI_pos (by omega)
    have hi : vp_in (nI c) 6 := vp_in_nI (by omega) (by decide)
    have ep := hpm c (by omega)
    by_cases z : st c = 0
    · obtain ⟨r, h1, hY⟩ := ih (by omega) f (tk_F_skip hf (fun w => w.1 z))
      exact ⟨r, h1, fun post hp => br_f hg (And.intro hi (pk_eq (st c) 0 (fun _ => nm_e (hY post hp)) (fun y => absurd z y) (tk_rn st c)))⟩
    · by_cases y : pa c = x
      · have y' : pm (nI c).toNatClampNeg = x := (tk_ri c).trans ((ep z).trans y)
        by_cases w : st c = 3
        · obtain ⟨r, h1, hY⟩ := ih (by omega) (nI c) (Or.inl ⟨c, by omega, by omega, rfl, ⟨w, y⟩, fun i _ _ => by omega⟩)
          exact ⟨r, h1, fun post hp => br_f hg (And.intro hi (pk_eq (st c) 0 (fun v => absurd v z) (fun _ => And.intro hi (br_t y' (And.intro hi (pk_eq (st c) 3 (fun _ => nm_e (hY post hp)) (fun v => absurd w v) (tk_rn st c))))) (tk_rn st c)))⟩
        · by_cases v : f = -2
          · obtain ⟨r, h1, hY⟩ := ih (by omega) (-1) (by
              refine Or.inr (Or.inl ⟨rfl, fun j hj hj6 => ?_, c, by omega, z, y⟩)
              by_cases e : j = c
              · subst e; exact fun k => w k.1
              · rcases hf with ⟨i, i0, i1, i2, i3⟩ | ⟨i1, _⟩ | ⟨_, i2⟩
                · rw [v] at i2
                  have := nI_pos (n := i) (by omega)
                  rw [← i2] at this
                  exact absurd (by decide) this
                · rw [v] at i1; exact absurd i1 (by decide)
                · exact fun k => i2 j (by omega) hj6 ⟨by omega, k.2⟩)
            exact ⟨r, h1, fun post hp => br_f hg (And.intro hi (pk_eq (st c) 0 (fun v => absurd v z) (fun _ => And.intro hi (br_t y' (And.intro hi (pk_eq (st c) 3 (fun v => absurd v w) (fun _ => br_t v (nm_e (hY post hp))) (tk_rn st c))))) (tk_rn st c)))⟩
          · obtain ⟨r, h1, hY⟩ := ih (by omega) f (by
              rcases hf with ⟨i, i0, i1, i2, i3, i4⟩ | ⟨i1, i2, i3⟩ | ⟨i1, i2⟩
              · refine Or.inl ⟨i, by omega, i1, i2, i3, fun k hk hki => ?_⟩
                by_cases e : k = c
                · subst e; exact fun t => w t.1
                · exact i4 k (by omega) hki
              · refine Or.inr (Or.inl ⟨i1, fun j hj hj6 => ?_, i3⟩)
                by_cases e : j = c
                · subst e; exact fun t => w t.1
                · exact i2 j (by omega) hj6
              · exact absurd i1 v)
            exact ⟨r, h1, fun post hp => br_f hg (And.intro hi (pk_eq (st c) 0 (fun v => absurd v z) (fun _ => And.intro hi (br_t y' (And.intro hi (pk_eq (st c) 3 (fun v => absurd v w) (fun _ => br_f v (nm_e (hY post hp))) (tk_rn st c))))) (tk_rn st c)))⟩
      · have y' : ¬ pm (nI c).toNatClampNeg = x := fun v => y ((ep z).symm.trans ((tk_ri c).symm.trans v))
        obtain ⟨r, h1, hY⟩ := ih (by omega) f (tk_F_skip hf (fun w => y w.2))
        exact ⟨r, h1, fun post hp => br_f hg (And.intro hi (pk_eq (st c) 0 (fun v => absurd v z) (fun _ => And.intro hi (br_f y' (nm_e (hY post hp)))) (tk_rn st c)))⟩
/-- the ended child, for both: X's hasChild (rh), endedChild (rx), Y's endedChild (ry) -/
theorem tk_ec (hst : ∀ j, st j ≤ 3) (hpm : ∀ j, j < 6 → st j ≠ 0 → pm j = pa j) (x : Int32) : ∃ rh rx ry : Int32, ((rh = 1 ∧ ∃ j, j < 6 ∧ rx = nI j ∧ ry = nI j ∧ st j = 3 ∧ pa j = x) ∨ (rh = 1 ∧ rx = -1 ∧ ry = -1) ∨ (rh = 0 ∧ rx = -1 ∧ ry = -2)) ∧ (∀ post : Int32 → Prop, post rh → wpX_hasChild post (fq, lq, hd, pn, ex, pr, lv, op, fA, fB, fN, tk_nf st, sp, pa, rg, tk_nf ds, bh, ps, pk, pw, tk_nf rd, tk_nf wr, en, sh, lt, fr, ms, mv, ol) x) ∧ (∀ post : Int32 → Prop, post rx → wpX_endedChild post (fq, lq, hd, pn, ex, pr, lv, op, fA, fB, fN, tk_nf st, sp, pa, rg, tk_nf ds, bh, ps, pk, pw, tk_nf rd, tk_nf wr, en, sh, lt, fr, ms, mv, ol) x) ∧ (∀ post : Int32 → Prop, post ry → wpY_endedChild post (qn, ey, py, cw, fy, tk_nf st, pm, sy, gy, tk_nf ds, me, wo, fi, qa, oy) x) := by
  obtain ⟨rh, h1, hX1⟩ := tk_hc2 (fq := fq) (lq := lq) (hd := hd) (pn := pn) (ex := ex) (pr := pr) (lv := lv) (op := op) (fA := fA) (fB := fB) (fN := fN) (sp := sp) (rg := rg) (bh := bh) (ps := ps) (pk := pk) (pw := pw) (en := en) (sh := sh) (lt := lt) (fr := fr) (ms := ms) (mv := mv) (ol := ol) (pa := pa) (ds := ds) (rd := rd) (wr := wr) hst (x := x) 6 0 rfl
  obtain ⟨rx, h2, hX2⟩ := tk_ec2 (fq := fq) (lq := lq) (hd := hd) (pn := pn) (ex := ex) (pr := pr) (lv := lv) (op := op) (fA := fA) (fB := fB) (fN := fN) (sp := sp) (rg := rg) (bh := bh) (ps := ps) (pk := pk) (pw := pw) (en := en) (sh := sh) (lt := lt) (fr := fr) (ms := ms) (mv := mv) (ol := ol) (pa := pa) (ds := ds) (rd := rd) (wr := wr) hst (x := x) 6 0 rfl
  obtain ⟨ry, h3, hY⟩ := tk_yec (qn := qn) (ey := ey) (py := py) (cw := cw) (fy := fy) (pm := pm) (sy := sy) (gy := gy) (me := me) (wo := wo) (fi := fi) (qa := qa) (oy := oy) (ds := ds) hst hpm (x := x) 6 (Nat.le_refl 6) (-2) (Or.inr (Or.inr ⟨rfl, fun j _ _ => by omega⟩))
  refine ⟨rh, rx, ry, ?_, fun post hp => Exists.intro 7 (hX1 post hp), fun post hp => Exists.intro 7 (hX2 post hp), fun post hp => Exists.intro 7 (hY post hp)⟩
  rcases h3 with ⟨j, j0, j1, j2, j3, j4⟩ | ⟨i1, i2, i3⟩ | ⟨i1, i2⟩
  · refine Or.inl ⟨?_, j, j1, ?_, j2, j3⟩
    · rcases h1 with h1 | h1
      · exact h1.1
      · exact absurd ⟨by omega, j3.2⟩ (h1.2 j (by omega) j1)
    · rcases h2 with ⟨i, i1, i2, i3, i4⟩ | h2
      · by_cases e : i < j
        · exact absurd i3 (j4 i (by omega) e)
        · by_cases e2 : j < i
          · exact absurd j3 (i4 j (by omega) e2)
          · rw [i2, show i = j by omega]
      · exact absurd j3 (h2.2 j (by omega) j1)
  · refine Or.inr (Or.inl ⟨?_, ?_, i1⟩)
    · rcases h1 with h1 | h1
      · exact h1.1
      · obtain ⟨j, j1, j2⟩ := i3
        exact absurd j2 (h1.2 j (by omega) j1)
    · rcases h2 with ⟨i, i1', i2', i3', i4'⟩ | h2
      · exact absurd i3' (i2 i (by omega) i1')
      · exact h2.1
  · refine Or.inr (Or.inr ⟨?_, ?_, i1⟩)
    · rcases h1 with ⟨_, j, j1, j2⟩ | h1
      · exact absurd j2 (i2 j (by omega) j1)
      · exact h1.1
    · rcases h2 with ⟨i, i1', i2', i3', i4'⟩ | h2
      · exact absurd ⟨by omega, i3'.2⟩ (i2 i (by omega) i1')
      · exact h2.1
end TKR
end
section
section TKP
variable {fq lq hd pn : Int32} {ex : Int64} {pr lv : Int32} {op fA fB fN st sp pa rg bh pw en sh lt fr ms mv ol : Nat → Int32} {ds rd wr ps pk : Nat → Nat}
variable {qn py : Int32} {ey : Int64} {cw pm me wo fi qa fy sy oy ty : Nat → Int32}
/-- pipes and their ends -/
def tk_D (ds rd wr ps pk : Nat → Nat) (pw wo fi : Nat → Int32) : Prop := (∀ i, i < 24 → ds i ≤ 6) ∧ (∀ k, k < 3 → rd k = tk_cn ds (1 + 2 * k) 24 ∧ wr k = tk_cn ds (2 + 2 * k) 24) ∧ (∀ k, k < 3 → 0 < rd k + wr k → fi k = nI (pk k) ∧ pk k ≤ 4 ∧ ps k < 4 ∧ ∀ i, i < pk k → wo (4 * k + i) = pw (4 * k + (ps k + i) % 4))
theorem tk_Drd (hD : tk_D ds rd wr ps pk pw wo fi) {k : Nat} (hk : k < 3) : rd k ≤ 24 ∧ wr k ≤ 24 := by
  rw [(hD.2.1 k hk).1, (hD.2.1 k hk).2]
  exact ⟨tk_cn_le _ _ _, tk_cn_le _ _ _⟩
/-- what a register names -/
def tk_eo (ds : Nat → Nat) (p : Nat) (d : Int32) : Nat := if d < 0 then 0 else if d ≤ 3 then ds (4 * p + d.toNatClampNeg) else 0
theorem tk_eo_c (ds : Nat → Nat) (p : Nat) (d : Int32) : (tk_eo ds p d = 0 ∧ (d < 0 ∨ ¬ d ≤ 3)) ∨ ∃ j, j < 4 ∧ d = nI j ∧ tk_eo ds p d = ds (4 * p + j) := by
  unfold tk_eo
  by_cases h : d < 0
  · rw [if_pos h]; exact Or.inl ⟨rfl, Or.inl h⟩
  · rw [if_neg h]
    by_cases h3 : d ≤ 3
    · rw [if_pos h3]
      obtain ⟨j, hj, rfl⟩ := nI_of2 (M := 3) (n := 3) (by decide) h h3
      exact Or.inr ⟨j, by omega, rfl, by rw [nI_clamp (by omega)]⟩
    · rw [if_neg h3]; exact Or.inl ⟨rfl, Or.inr h3⟩
theorem tk_eo_le {p : Nat} (hD : ∀ i, i < 24 → ds i ≤ 6) (hp : p < 6) (d : Int32) : tk_eo ds p d ≤ 6 := by
  rcases tk_eo_c ds p d with h | ⟨j, hj, _, h⟩
  · omega
  · rw [h]; exact hD _ (by omega)
theorem tk_xea {post : Int32 → Prop} {p : Nat} {d : Int32} (hp : p < 6) (h : post (nI (tk_eo ds p d))) : wpX_endAt post (fq, lq, hd, pn, ex, pr, lv, op, fA, fB, fN, st, sp, pa, rg, tk_nf ds, bh, tk_nf ps, tk_nf pk, pw, tk_nf rd, tk_nf wr, en, sh, lt, fr, ms, mv, ol) (nI p) d := by
  by_cases h0 : d < 0
  · rw [show tk_eo ds p d = 0 from if_pos h0] at h
    exact br_t h0 h
  · by_cases h3 : d ≤ 3
    · obtain ⟨j, hj, rfl⟩ := nI_of2 (M := 3) (n := 3) (by decide) h0 h3
      have e : tk_eo ds p (nI j) = ds (4 * p + j) := by
        unfold tk_eo
        rw [if_neg h0, if_pos h3, nI_clamp (by omega)]
      rw [e] at h
      exact br_f h0 (br_t h3 (And.intro (pk_in (4 * p + j) 24 (by omega) (tk_i4 p j)) (tk_ap (tk_rn ds (4 * p + j) (tk_i4 p j)) h)))
    · rw [show tk_eo ds p d = 0 from (if_neg h0).trans (if_neg h3)] at h
      exact br_f h0 (br_f h3 h)
theorem tk_yin {post : Int32 → Prop} {v : SY} {x a b : Int32} (h : post (if x < a then 0 else if b < x then 0 else 1)) : wpY_in post v x a b := by
  obtain ⟨_, _, _, _, _, _, _, _, _, _, _, _, _, _, _⟩ := v
  by_cases h1 : x < a
  · rw [if_pos h1] at h
    exact br_t h1 h
  · rw [if_neg h1] at h
    by_cases h2 : b < x
    · rw [if_pos h2] at h
      exact br_f h1 (br_t h2 h)
    · rw [if_neg h2] at h
      exact br_f h1 (br_f h2 h)
theorem tk_yeo {post : Int32 → Prop} {p b : Nat} (hp : p < 6) (hb : b < 4) (h : post (nI (tk_eo ds p (rg (4 * p + b))))) : wpY_endOf post (qn, ey, py, cw, fy, ty, pm, sy, rg, tk_nf ds, me, wo, fi, qa, oy) (nI p) (nI b) := by
  refine tk_ld (4 * p + b) (rg (4 * p + b)) (by omega) (tk_yin ?_) (tk_i4 p b)
  by_cases h0 : rg (4 * p + b) < 0
  · rw [show tk_eo ds p (rg (4 * p + b)) = 0 from if_pos h0] at h
    rw [if_pos h0]
    exact br_t rfl h
  · rw [if_neg h0]
    by_cases h3 : rg (4 * p + b) ≤ 3
    · rw [if_neg (Int32.not_lt.mpr h3)]
      refine br_f (by decide) ?_
      obtain ⟨j, hj, e1⟩ := nI_of2 (M := 3) (n := 3) (by decide) h0 h3
      rw [e1] at h h0 h3 ⊢
      have e : tk_eo ds p (nI j) = ds (4 * p + j) := by
        unfold tk_eo
        rw [if_neg h0, if_pos h3, nI_clamp (by omega)]
      rw [e] at h
      exact And.intro (pk_in (4 * p + j) 24 (by omega) (tk_i4 p j)) (tk_ap (tk_rn ds (4 * p + j) (tk_i4 p j)) h)
    · rw [show tk_eo ds p (rg (4 * p + b)) = 0 from (if_neg h0).trans (if_neg h3)] at h
      rw [if_pos (Int32.not_le.mp h3)]
      exact br_t rfl h
theorem tk_xir {post : Int32 → Prop} {u : SX} {e : Nat} (he : e < 2 ^ 31) (h : post (nI (e % 2))) : wpX_isReading post u (nI e) := by
  obtain ⟨_, _, _, _, _, _, _, _, _, _, _, _, _, _, _, _, _, _, _, _, _, _, _, _, _, _, _, _, _⟩ := u
  have e1 : nI e &&& 1 = nI (e % 2) := pk_andN (by omega) 1 (by decide)
  by_cases c : e % 2 = 0
  · rw [c] at h e1
    exact br_t e1 h
  · have c1 : e % 2 = 1 := by omega
    rw [c1] at h e1
    exact br_f (fun z => absurd (e1.symm.trans z) (by decide)) h
theorem tk_po {e : Nat} (h1 : 1 ≤ e) (he : e < 2 ^ 31) : (nI e - 1) / 2 = nI ((e - 1) / 2) := by
  rw [tk_s1 h1]
  exact pk_div (d := 2) (by omega) (by decide) (by decide)
theorem tk_xpo {post : Int32 → Prop} {u : SX} {e : Nat} (h1 : 1 ≤ e) (he : e < 2 ^ 31) (h : post (nI ((e - 1) / 2))) : wpX_pipeOf post u (nI e) := by
  obtain ⟨_, _, _, _, _, _, _, _, _, _, _, _, _, _, _, _, _, _, _, _, _, _, _, _, _, _, _, _, _⟩ := u
  exact And.intro (by decide) (tk_ap (tk_po h1 he) h)
/-- whether there is a pipe: 0 or 1 -/
def tk_th (ds : Nat → Nat) (k : Nat) : Int32 := if tk_cn ds (1 + 2 * k) 24 + tk_cn ds (2 + 2 * k) 24 = 0 then 0 else 1
theorem tk_th_c (ds : Nat → Nat) (k : Nat) : (tk_th ds k = 0 ∧ tk_cn ds (1 + 2 * k) 24 + tk_cn ds (2 + 2 * k) 24 = 0) ∨ (tk_th ds k = 1 ∧ 0 < tk_cn ds (1 + 2 * k) 24 + tk_cn ds (2 + 2 * k) 24) := by
  unfold tk_th
  by_cases c : tk_cn ds (1 + 2 * k) 24 + tk_cn ds (2 + 2 * k) 24 = 0
  · rw [if_pos c]; exact Or.inl ⟨rfl, c⟩
  · rw [if_neg c]; exact Or.inr ⟨rfl, by omega⟩
theorem tk_xit {post : Int32 → Prop} {k : Nat} (hk : k < 3) (hb : rd k + wr k < 2 ^ 31) (h : post (if rd k + wr k = 0 then 0 else 1)) : wpX_isThere post (fq, lq, hd, pn, ex, pr, lv, op, fA, fB, fN, st, sp, pa, rg, tk_nf ds, bh, tk_nf ps, tk_nf pk, pw, tk_nf rd, tk_nf wr, en, sh, lt, fr, ms, mv, ol) (nI k) := by
  have e : tk_nf rd (nI k).toNatClampNeg + tk_nf wr (nI k).toNatClampNeg = nI (rd k + wr k) := by rw [tk_rn rd k, tk_rn wr k, nI_add]
  refine And.intro (pk_in k 3 hk) (And.intro (pk_in k 3 hk) (pk_le (rd k + wr k) 0 (fun z => ?_) (fun z => ?_) e))
  · rw [if_pos (by omega)] at h; exact h
  · rw [if_neg (by omega)] at h; exact h
theorem tk_yhas2 {post : Int32 → Prop} {e : Nat} (hD : ∀ i, i < 24 → ds i ≤ 6) (he : e < 2 ^ 31) (h : post (if tk_cn ds e 24 = 0 then 0 else 1)) : ∀ d c, c + d = 24 → (∀ j, j < c → ds j ≠ e) → wY_has_2 post (nI e) qn ey py cw fy ty pm sy rg (tk_nf ds) me wo fi qa oy (d + 1) (nI c) := by
  intro d
  induction d with
  | zero =>
    intro c hc hl
    obtain rfl : c = 24 := by omega
    rw [if_pos (tk_cn_no hl)] at h
    exact br_t (nI_le (a := 24) (b := 24) (by omega) (by decide)) h
  | succ d ih =>
    intro c hc hl
    have h6 := hD c (by omega)
    refine br_f (nI_ge (b := 24) (by omega) (by decide)) (And.intro (pk_in c 24 (by omega)) (pk_eq (ds c) e (fun z => ?_) (fun z => nm_r (nI_1 c) (ih (c + 1) (by omega) ?_)) (tk_rn ds c)))
    · have := tk_cn_pos 24 (show c < 24 by omega) z
      rw [if_neg (by omega)] at h
      exact h
    · intro j hj
      by_cases w : j = c
      · subst w; exact z
      · exact hl j (by omega)
theorem tk_yhas {post : Int32 → Prop} {e : Nat} {x : Int32} (hD : ∀ i, i < 24 → ds i ≤ 6) (he : e < 2 ^ 31) (hx : x = nI e) (h : post (if tk_cn ds e 24 = 0 then 0 else 1)) : wpY_has post (qn, ey, py, cw, fy, ty, pm, sy, rg, tk_nf ds, me, wo, fi, qa, oy) x := by
  subst hx
  exact Exists.intro 25 (tk_yhas2 hD he h 24 0 rfl (fun j hj => absurd hj (by omega)))
theorem tk_yit {post : Int32 → Prop} {k : Nat} (hD : ∀ i, i < 24 → ds i ≤ 6) (hk : k < 3) (h : post (tk_th ds k)) : wpY_isThere post (qn, ey, py, cw, fy, ty, pm, sy, rg, tk_nf ds, me, wo, fi, qa, oy) (nI k) := by
  have e1 : 1 + 2 * nI k = nI (1 + 2 * k) := by rw [tk_m2]; exact nI_add 1 (2 * k)
  have e2 : 2 + 2 * nI k = nI (2 + 2 * k) := by rw [tk_m2]; exact nI_add 2 (2 * k)
  refine tk_yhas (e := 1 + 2 * k) hD (by omega) e1 ?_
  by_cases c : tk_cn ds (1 + 2 * k) 24 = 0
  · rw [if_pos c]
    refine br_t rfl (tk_yhas (e := 2 + 2 * k) hD (by omega) e2 ?_)
    by_cases c2 : tk_cn ds (2 + 2 * k) 24 = 0
    · rw [if_pos c2]
      rw [show tk_th ds k = 0 from if_pos (by omega)] at h
      exact br_t rfl h
    · rw [if_neg c2]
      rw [show tk_th ds k = 1 from if_neg (by omega)] at h
      exact br_f (by decide) h
  · rw [if_neg c]
    rw [show tk_th ds k = 1 from if_neg (by omega)] at h
    exact br_f (by decide) h
theorem tk_xit' {post : Int32 → Prop} {k : Nat} (hD : tk_D ds rd wr ps pk pw wo fi) (hk : k < 3) (h : post (tk_th ds k)) : wpX_isThere post (fq, lq, hd, pn, ex, pr, lv, op, fA, fB, fN, st, sp, pa, rg, tk_nf ds, bh, tk_nf ps, tk_nf pk, pw, tk_nf rd, tk_nf wr, en, sh, lt, fr, ms, mv, ol) (nI k) := by
  have b := tk_Drd hD hk
  refine tk_xit hk (by omega) ?_
  rw [(hD.2.1 k hk).1, (hD.2.1 k hk).2]
  exact h
/-- one more, one less end -/
theorem tk_xce1 {post : SX → Prop} {e : Nat} (he : e ≤ 6) (h0 : e = 0 → post (fq, lq, hd, pn, ex, pr, lv, op, fA, fB, fN, st, sp, pa, rg, tk_nf ds, bh, tk_nf ps, tk_nf pk, pw, tk_nf rd, tk_nf wr, en, sh, lt, fr, ms, mv, ol)) (h1 : ∀ k, k < 3 → e = 1 + 2 * k → rd k ≤ 24 ∧ (post (fq, lq, hd, pn, ex, pr, lv, op, fA, fB, fN, st, sp, pa, rg, tk_nf ds, bh, tk_nf ps, tk_nf pk, pw, tk_nf (tk_nu rd k (rd k + 1)), tk_nf wr, en, sh, lt, fr, ms, mv, ol))) (h2 : ∀ k, k < 3 → e = 2 + 2 * k → wr k ≤ 24 ∧ (post (fq, lq, hd, pn, ex, pr, lv, op, fA, fB, fN, st, sp, pa, rg, tk_nf ds, bh, tk_nf ps, tk_nf pk, pw, tk_nf rd, tk_nf (tk_nu wr k (wr k + 1)), en, sh, lt, fr, ms, mv, ol))) : wpX_countEnd post (fq, lq, hd, pn, ex, pr, lv, op, fA, fB, fN, st, sp, pa, rg, tk_nf ds, bh, tk_nf ps, tk_nf pk, pw, tk_nf rd, tk_nf wr, en, sh, lt, fr, ms, mv, ol) (nI e) 1 := by
  refine pk_eq e 0 (fun z => h0 z) (fun z => ?_)
  refine tk_xpo (by omega) (by omega) (tk_xir (by omega) ?_)
  by_cases c : e % 2 = 0
  · rw [c]
    obtain ⟨b, k⟩ := h2 ((e - 1) / 2) (by omega) (by omega)
    exact br_t rfl (And.intro (pk_in ((e - 1) / 2) 3 (by omega)) (tk_sn ((e - 1) / 2) (wr ((e - 1) / 2) + 1) (by omega) k rfl (tk_vbb (wr ((e - 1) / 2) + 1) (by rw [tk_rn wr ((e - 1) / 2)]; exact nI_1 _))))
  · rw [show e % 2 = 1 by omega]
    obtain ⟨b, k⟩ := h1 ((e - 1) / 2) (by omega) (by omega)
    exact br_f (by decide) (And.intro (pk_in ((e - 1) / 2) 3 (by omega)) (tk_sn ((e - 1) / 2) (rd ((e - 1) / 2) + 1) (by omega) k rfl (tk_vbb (rd ((e - 1) / 2) + 1) (by rw [tk_rn rd ((e - 1) / 2)]; exact nI_1 _))))
theorem tk_xcem {post : SX → Prop} {e : Nat} (he : e ≤ 6) (h0 : e ≠ 0) (h1 : ∀ k, k < 3 → e = 1 + 2 * k → 0 < rd k ∧ rd k ≤ 24 ∧ (post (fq, lq, hd, pn, ex, pr, lv, op, fA, fB, fN, st, sp, pa, rg, tk_nf ds, bh, tk_nf ps, tk_nf pk, pw, tk_nf (tk_nu rd k (rd k - 1)), tk_nf wr, en, sh, lt, fr, ms, mv, ol))) (h2 : ∀ k, k < 3 → e = 2 + 2 * k → 0 < wr k ∧ wr k ≤ 24 ∧ (post (fq, lq, hd, pn, ex, pr, lv, op, fA, fB, fN, st, sp, pa, rg, tk_nf ds, bh, tk_nf ps, tk_nf pk, pw, tk_nf rd, tk_nf (tk_nu wr k (wr k - 1)), en, sh, lt, fr, ms, mv, ol))) : wpX_countEnd post (fq, lq, hd, pn, ex, pr, lv, op, fA, fB, fN, st, sp, pa, rg, tk_nf ds, bh, tk_nf ps, tk_nf pk, pw, tk_nf rd, tk_nf wr, en, sh, lt, fr, ms, mv, ol) (nI e) (-1) := by
  refine pk_eq e 0 (fun z => absurd z h0) (fun z => ?_)
  refine tk_xpo (by omega) (by omega) (tk_xir (by omega) ?_)
  by_cases c : e % 2 = 0
  · rw [c]
    obtain ⟨b0, b, k⟩ := h2 ((e - 1) / 2) (by omega) (by omega)
    exact br_t rfl (And.intro (pk_in ((e - 1) / 2) 3 (by omega)) (tk_sn ((e - 1) / 2) (wr ((e - 1) / 2) - 1) (by omega) k rfl (tk_vbb (wr ((e - 1) / 2) - 1) (by rw [tk_rn wr ((e - 1) / 2)]; exact sb_m1 b0))))
  · rw [show e % 2 = 1 by omega]
    obtain ⟨b0, b, k⟩ := h1 ((e - 1) / 2) (by omega) (by omega)
    exact br_f (by decide) (And.intro (pk_in ((e - 1) / 2) 3 (by omega)) (tk_sn ((e - 1) / 2) (rd ((e - 1) / 2) - 1) (by omega) k rfl (tk_vbb (rd ((e - 1) / 2) - 1) (by rw [tk_rn rd ((e - 1) / 2)]; exact sb_m1 b0))))
/-- ds with one place changed: the counts -/
theorem tk_D_nu {a e : Nat} {rd' wr' : Nat → Nat} (hD : tk_D ds rd wr ps pk pw wo fi) (ha : a < 24) (he : e ≤ 6) (h : ∀ k, k < 3 → (rd' k + (if ds a = 1 + 2 * k then 1 else 0) = rd k + (if e = 1 + 2 * k then 1 else 0)) ∧ (wr' k + (if ds a = 2 + 2 * k then 1 else 0) = wr k + (if e = 2 + 2 * k then 1 else 0)) ∧ (0 < rd' k + wr' k → 0 < rd k + wr k)) : tk_D (tk_nu ds a e) rd' wr' ps pk pw wo fi := by
  refine ⟨fun i hi => ?_, fun k hk => ?_, fun k hk hp => hD.2.2 k hk ((h k hk).2.2 hp)⟩
  · by_cases c : i = a
    · subst c; rw [tk_nus]; exact he
    · rw [tk_nun c]; exact hD.1 i hi
  · have c1 := tk_cn_nu (g := ds) (v := 1 + 2 * k) (k := a) (x := e) 24 ha
    have c2 := tk_cn_nu (g := ds) (v := 2 + 2 * k) (k := a) (x := e) 24 ha
    have h1 := (h k hk).1
    have h2 := (h k hk).2.1
    have d1 := (hD.2.1 k hk).1
    have d2 := (hD.2.1 k hk).2
    omega
/-- an end put into an empty place -/
theorem tk_put {a b : Nat} (hD : tk_D ds rd wr ps pk pw wo fi) (ha : a < 24) (hb : b < 24) (h0 : ds a = 0) : ∃ rd' wr' : Nat → Nat, tk_D (tk_nu ds a (ds b)) rd' wr' ps pk pw wo fi ∧ ∀ post : SX → Prop, post (fq, lq, hd, pn, ex, pr, lv, op, fA, fB, fN, st, sp, pa, rg, tk_nf (tk_nu ds a (ds b)), bh, tk_nf ps, tk_nf pk, pw, tk_nf rd', tk_nf wr', en, sh, lt, fr, ms, mv, ol) → wpX_countEnd post (fq, lq, hd, pn, ex, pr, lv, op, fA, fB, fN, st, sp, pa, rg, tk_nf (tk_nu ds a (ds b)), bh, tk_nf ps, tk_nf pk, pw, tk_nf rd, tk_nf wr, en, sh, lt, fr, ms, mv, ol) (nI (ds b)) 1 := by
  have h6 := hD.1 b hb
  by_cases z : ds b = 0
  · refine ⟨rd, wr, tk_D_nu hD ha h6 (fun k hk => ?_), fun post hp => tk_xce1 h6 (fun _ => hp) (fun k hk e => absurd z (by omega)) (fun k hk e => absurd z (by omega))⟩
    rw [h0, z, if_neg (by omega), if_neg (by omega)]
    exact ⟨rfl, rfl, fun w => w⟩
  · by_cases c : ds b % 2 = 1
    · have hp0 : 0 < rd ((ds b - 1) / 2) := by
        rw [(hD.2.1 ((ds b - 1) / 2) (by omega)).1]
        exact tk_cn_pos 24 hb (by omega)
      refine ⟨tk_nu rd ((ds b - 1) / 2) (rd ((ds b - 1) / 2) + 1), wr, tk_D_nu hD ha h6 (fun k hk => ?_), fun post hp => tk_xce1 h6 (fun w => absurd w z) (fun k hk e => ?_) (fun k hk e => by omega)⟩
      · rw [h0, if_neg (by omega), if_neg (c := 0 = 2 + 2 * k) (by omega), if_neg (c := ds b = 2 + 2 * k) (by omega)]
        by_cases e : k = (ds b - 1) / 2
        · rw [if_pos (by omega), ← e, tk_nus]
          rw [← e] at hp0
          exact ⟨rfl, rfl, fun _ => by omega⟩
        · rw [if_neg (by omega), tk_nun e]
          exact ⟨rfl, rfl, fun w => w⟩
      · rw [show (ds b - 1) / 2 = k by omega] at hp
        exact ⟨(tk_Drd hD hk).1, hp⟩
    · have hp0 : 0 < wr ((ds b - 1) / 2) := by
        rw [(hD.2.1 ((ds b - 1) / 2) (by omega)).2]
        exact tk_cn_pos 24 hb (by omega)
      refine ⟨rd, tk_nu wr ((ds b - 1) / 2) (wr ((ds b - 1) / 2) + 1), tk_D_nu hD ha h6 (fun k hk => ?_), fun post hp => tk_xce1 h6 (fun w => absurd w z) (fun k hk e => by omega) (fun k hk e => ?_)⟩
      · rw [h0, if_neg (by omega), if_neg (c := ds b = 1 + 2 * k) (by omega), if_neg (c := 0 = 2 + 2 * k) (by omega)]
        by_cases e : k = (ds b - 1) / 2
        · rw [if_pos (by omega), ← e, tk_nus]
          rw [← e] at hp0
          exact ⟨rfl, rfl, fun _ => by omega⟩
        · rw [if_neg (by omega), tk_nun e]
          exact ⟨rfl, rfl, fun w => w⟩
      · rw [show (ds b - 1) / 2 = k by omega] at hp
        exact ⟨(tk_Drd hD hk).2, hp⟩
/-- an end closed -/
theorem tk_cl {p d : Nat} (hD : tk_D ds rd wr ps pk pw wo fi) (hp : p < 6) (hd4 : d < 4) : ∃ rd' wr' pk' : Nat → Nat, tk_D (tk_nu ds (4 * p + d) 0) rd' wr' ps pk' pw wo fi ∧ ∀ post : SX → Prop, post (fq, lq, hd, pn, ex, pr, lv, op, fA, fB, fN, st, sp, pa, rg, tk_nf (tk_nu ds (4 * p + d) 0), bh, tk_nf ps, tk_nf pk', pw, tk_nf rd', tk_nf wr', en, sh, lt, fr, ms, mv, ol) → wpX_closeEnd post (fq, lq, hd, pn, ex, pr, lv, op, fA, fB, fN, st, sp, pa, rg, tk_nf ds, bh, tk_nf ps, tk_nf pk, pw, tk_nf rd, tk_nf wr, en, sh, lt, fr, ms, mv, ol) (nI p) (nI d) := by
  have ha : 4 * p + d < 24 := by omega
  have e4 := tk_i4 p d
  generalize 4 * p + d = a at ha e4
  have h6 := hD.1 a ha
  by_cases z : ds a = 0
  · refine ⟨rd, wr, pk, by rw [tk_nuk z]; exact hD, fun post h => ?_⟩
    rw [tk_nuk z] at h
    exact tk_ld a (nI (ds a)) ha (pk_eq (ds a) 0 (fun _ => h) (fun w => absurd z w)) e4
  · have K : ∀ (rd' wr' : Nat → Nat), tk_D (tk_nu ds a 0) rd' wr' ps pk pw wo fi → (∀ post : SX → Prop, post (fq, lq, hd, pn, ex, pr, lv, op, fA, fB, fN, st, sp, pa, rg, tk_nf (tk_nu ds a 0), bh, tk_nf ps, tk_nf pk, pw, tk_nf rd', tk_nf wr', en, sh, lt, fr, ms, mv, ol) → wpX_countEnd post (fq, lq, hd, pn, ex, pr, lv, op, fA, fB, fN, st, sp, pa, rg, tk_nf (tk_nu ds a 0), bh, tk_nf ps, tk_nf pk, pw, tk_nf rd, tk_nf wr, en, sh, lt, fr, ms, mv, ol) (nI (ds a)) (-1)) → ∃ rd' wr' pk' : Nat → Nat, tk_D (tk_nu ds a 0) rd' wr' ps pk' pw wo fi ∧ ∀ post : SX → Prop, post (fq, lq, hd, pn, ex, pr, lv, op, fA, fB, fN, st, sp, pa, rg, tk_nf (tk_nu ds a 0), bh, tk_nf ps, tk_nf pk', pw, tk_nf rd', tk_nf wr', en, sh, lt, fr, ms, mv, ol) → wpX_closeEnd post (fq, lq, hd, pn, ex, pr, lv, op, fA, fB, fN, st, sp, pa, rg, tk_nf ds, bh, tk_nf ps, tk_nf pk, pw, tk_nf rd, tk_nf wr, en, sh, lt, fr, ms, mv, ol) (nI p) (nI d) := by
      intro rd' wr' hD' hc
      rcases tk_th_c (tk_nu ds a 0) ((ds a - 1) / 2) with ⟨t1, t2⟩ | ⟨t1, t2⟩
      · refine ⟨rd', wr', tk_nu pk ((ds a - 1) / 2) 0, ⟨hD'.1, hD'.2.1, fun k hk hpo => ?_⟩, fun post h => tk_ld a (nI (ds a)) ha (pk_eq (ds a) 0 (fun w => absurd w z) (fun _ => tk_sn a 0 ha (hc _ (tk_xpo (by omega) (by omega) (tk_xit' hD' (by omega) ?_))) e4 (tk_vb 0))) e4⟩
        · by_cases e : k = (ds a - 1) / 2
          · subst e
            rw [(hD'.2.1 _ hk).1, (hD'.2.1 _ hk).2] at hpo
            omega
          · rw [tk_nun e]; exact hD'.2.2 k hk hpo
        · rw [t1]
          exact br_t rfl (tk_sn ((ds a - 1) / 2) 0 (by omega) h rfl (tk_vb 0))
      · refine ⟨rd', wr', pk, hD', fun post h => tk_ld a (nI (ds a)) ha (pk_eq (ds a) 0 (fun w => absurd w z) (fun _ => tk_sn a 0 ha (hc _ (tk_xpo (by omega) (by omega) (tk_xit' hD' (by omega) ?_))) e4 (tk_vb 0))) e4⟩
        rw [t1]
        exact br_f (by decide) h
    by_cases c : ds a % 2 = 1
    · have hp0 : 0 < rd ((ds a - 1) / 2) := by
        rw [(hD.2.1 ((ds a - 1) / 2) (by omega)).1]
        exact tk_cn_pos 24 ha (by omega)
      refine K (tk_nu rd ((ds a - 1) / 2) (rd ((ds a - 1) / 2) - 1)) wr (tk_D_nu hD ha (by omega) (fun k hk => ?_)) (fun post h => tk_xcem h6 z (fun k hk e => ?_) (fun k hk e => by omega))
      · rw [if_neg (c := 0 = 1 + 2 * k) (by omega), if_neg (c := 0 = 2 + 2 * k) (by omega), if_neg (c := ds a = 2 + 2 * k) (by omega)]
        by_cases e : k = (ds a - 1) / 2
        · rw [if_pos (by omega), ← e, tk_nus]
          rw [← e] at hp0
          exact ⟨by omega, rfl, fun _ => by omega⟩
        · rw [if_neg (by omega), tk_nun e]
          exact ⟨rfl, rfl, fun w => w⟩
      · rw [show (ds a - 1) / 2 = k by omega] at h hp0
        exact ⟨hp0, (tk_Drd hD hk).1, h⟩
    · have hp0 : 0 < wr ((ds a - 1) / 2) := by
        rw [(hD.2.1 ((ds a - 1) / 2) (by omega)).2]
        exact tk_cn_pos 24 ha (by omega)
      refine K rd (tk_nu wr ((ds a - 1) / 2) (wr ((ds a - 1) / 2) - 1)) (tk_D_nu hD ha (by omega) (fun k hk => ?_)) (fun post h => tk_xcem h6 z (fun k hk e => by omega) (fun k hk e => ?_))
      · rw [if_neg (c := 0 = 1 + 2 * k) (by omega), if_neg (c := 0 = 2 + 2 * k) (by omega), if_neg (c := ds a = 1 + 2 * k) (by omega)]
        by_cases e : k = (ds a - 1) / 2
        · rw [if_pos (by omega), ← e, tk_nus]
          rw [← e] at hp0
          exact ⟨rfl, by omega, fun _ => by omega⟩
        · rw [if_neg (by omega), tk_nun e]
          exact ⟨rfl, rfl, fun w => w⟩
      · rw [show (ds a - 1) / 2 = k by omega] at h hp0
        exact ⟨hp0, (tk_Drd hD hk).2, h⟩
end TKP
end
section
section TKP2
variable {fq lq hd pn : Int32} {ex : Int64} {pr lv : Int32} {op fA fB fN st sp pa rg bh pw en sh lt fr ms mv ol : Nat → Int32} {ds rd wr ps pk : Nat → Nat}
variable {qn py : Int32} {ey : Int64} {cw pm me wo fi qa fy sy oy ty : Nat → Int32}
theorem tk_ed2 {p : Nat} (hp : p < 6) (hD : ∀ i, i < 24 → ds i ≤ 6) : ∀ m d, d + m = 4 → ∃ r : Int32, (r = -1 ∨ ∃ x, d ≤ x ∧ x < 4 ∧ r = nI x ∧ ds (4 * p + x) = 0) ∧ (∀ post : Int32 → Prop, post r → wX_emptyDescriptor_2 post (nI p) fq lq hd pn ex pr lv op fA fB fN st sp pa rg (tk_nf ds) bh (tk_nf ps) (tk_nf pk) pw (tk_nf rd) (tk_nf wr) en sh lt fr ms mv ol (m + 1) (nI d)) ∧ (∀ post : Int32 → Prop, post r → wY_nothing_2 post (nI p) qn ey py cw fy ty pm sy rg (tk_nf ds) me wo fi qa oy (m + 1) (nI d)) := by
  intro m
  induction m with
  | zero =>
    intro d hd
    obtain rfl : d = 4 := by omega
    exact ⟨-1, Or.inl rfl, fun _ h => br_t (nI_le (a := 4) (b := 4) (by omega) (by decide)) h, fun _ h => br_t (nI_le (a := 4) (b := 4) (by omega) (by decide)) h⟩
  | succ m ih =>
    intro d hd
    have h6 := hD (4 * p + d) (by omega)
    have hg := nI_ge (a := d) (b := 4) (by omega) (by decide)
    have hi : vp_in (4 * nI p + nI d) 24 := pk_in (4 * p + d) 24 (by omega) (tk_i4 p d)
    have hr := tk_rn (i := 4 * nI p + nI d) ds (4 * p + d) (tk_i4 p d)
    by_cases z : ds (4 * p + d) = 0
    · exact ⟨nI d, Or.inr ⟨d, by omega, by omega, rfl, z⟩, fun _ h => br_f hg (And.intro hi (pk_eq (ds (4 * p + d)) 0 (fun _ => h) (fun y => absurd z y) hr)), fun _ h => br_f hg (And.intro hi (pk_eq (ds (4 * p + d)) 0 (fun _ => h) (fun y => absurd z y) hr))⟩
    · obtain ⟨r, h1, hX, hY⟩ := ih (d + 1) (by omega)
      refine ⟨r, ?_, fun post h => br_f hg (And.intro hi (pk_eq (ds (4 * p + d)) 0 (fun y => absurd y z) (fun _ => nm_r (nI_1 d) (hX post h)) hr)), fun post h => br_f hg (And.intro hi (pk_eq (ds (4 * p + d)) 0 (fun y => absurd y z) (fun _ => nm_r (nI_1 d) (hY post h)) hr))⟩
      rcases h1 with h1 | ⟨x, x1, x2, x3⟩
      · exact Or.inl h1
      · exact Or.inr ⟨x, by omega, x2, x3⟩
theorem tk_ed {p d : Nat} (hp : p < 6) (hd4 : d ≤ 4) (hD : ∀ i, i < 24 → ds i ≤ 6) : ∃ r : Int32, (r = -1 ∨ ∃ x, d ≤ x ∧ x < 4 ∧ r = nI x ∧ ds (4 * p + x) = 0) ∧ (∀ post : Int32 → Prop, post r → wpX_emptyDescriptor post (fq, lq, hd, pn, ex, pr, lv, op, fA, fB, fN, st, sp, pa, rg, tk_nf ds, bh, tk_nf ps, tk_nf pk, pw, tk_nf rd, tk_nf wr, en, sh, lt, fr, ms, mv, ol) (nI p) (nI d)) ∧ (∀ post : Int32 → Prop, post r → wpY_nothing post (qn, ey, py, cw, fy, ty, pm, sy, rg, tk_nf ds, me, wo, fi, qa, oy) (nI p) (nI d)) := by
  obtain ⟨r, h1, hX, hY⟩ := tk_ed2 (fq := fq) (lq := lq) (hd := hd) (pn := pn) (ex := ex) (pr := pr) (lv := lv) (op := op) (fA := fA) (fB := fB) (fN := fN) (st := st) (sp := sp) (pa := pa) (bh := bh) (en := en) (sh := sh) (lt := lt) (fr := fr) (ms := ms) (mv := mv) (ol := ol) (rg := rg) (rd := rd) (wr := wr) (ps := ps) (pk := pk) (pw := pw) (qn := qn) (ey := ey) (py := py) (cw := cw) (fy := fy) (pm := pm) (sy := sy) (ty := ty) (me := me) (qa := qa) (oy := oy) (wo := wo) (fi := fi) hp hD (4 - d) d (by omega)
  exact ⟨r, h1, fun post h => Exists.intro (4 - d + 1) (hX post h), fun post h => Exists.intro (4 - d + 1) (hY post h)⟩
/-- the least pipe that isn't there, from c on -/
def tk_G (ds : Nat → Nat) (c : Nat) (r : Int32) : Prop := (∃ k, c ≤ k ∧ k < 3 ∧ r = nI k ∧ tk_th ds k = 0 ∧ ∀ i, c ≤ i → i < k → tk_th ds i ≠ 0) ∨ (r = -1 ∧ ∀ k, c ≤ k → k < 3 → tk_th ds k ≠ 0)
theorem tk_G_skip {c : Nat} {r : Int32} (h : tk_G ds (c + 1) r) (hn : tk_th ds c ≠ 0) : tk_G ds c r := by
  rcases h with ⟨k, k1, k2, k3, k4, k5⟩ | ⟨h1, h2⟩
  · refine Or.inl ⟨k, by omega, k2, k3, k4, fun i hi hik => ?_⟩
    by_cases e : i = c
    · subst e; exact hn
    · exact k5 i (by omega) hik
  · refine Or.inr ⟨h1, fun k hk hk3 => ?_⟩
    by_cases e : k = c
    · subst e; exact hn
    · exact h2 k (by omega) hk3
theorem tk_G_u {r s : Int32} (h : tk_G ds 0 r) (k : tk_G ds 0 s) : r = s := by
  rcases h with ⟨i, i1, i2, i3, i4, i5⟩ | ⟨h1, h2⟩
  · rcases k with ⟨j, j1, j2, j3, j4, j5⟩ | ⟨k1, k2⟩
    · by_cases a : i < j
      · exact absurd i4 (j5 i (by omega) a)
      · by_cases b : j < i
        · exact absurd j4 (i5 j (by omega) b)
        · rw [i3, j3, show i = j by omega]
    · exact absurd i4 (k2 i (by omega) i2)
  · rcases k with ⟨j, j1, j2, j3, j4, j5⟩ | ⟨k1, k2⟩
    · exact absurd j4 (h2 j (by omega) j2)
    · rw [h1, k1]
theorem tk_xfp2 (hD : tk_D ds rd wr ps pk pw wo fi) : ∀ d c, c + d = 3 → ∃ r : Int32, tk_G ds c r ∧ (∀ post : Int32 → Prop, post r → wX_freePipe_2 post fq lq hd pn ex pr lv op fA fB fN st sp pa rg (tk_nf ds) bh (tk_nf ps) (tk_nf pk) pw (tk_nf rd) (tk_nf wr) en sh lt fr ms mv ol (d + 1) (nI c)) := by
  intro d
  induction d with
  | zero =>
    intro c hc
    obtain rfl : c = 3 := by omega
    exact ⟨-1, Or.inr ⟨rfl, fun k _ _ => by omega⟩, fun _ h => br_t (nI_le (a := 3) (b := 3) (by omega) (by decide)) h⟩
  | succ d ih =>
    intro c hc
    have hg := nI_ge (a := c) (b := 3) (by omega) (by decide)
    rcases tk_th_c ds c with ⟨t1, _⟩ | ⟨t1, _⟩
    · refine ⟨nI c, Or.inl ⟨c, by omega, by omega, rfl, t1, fun i _ _ => by omega⟩, fun post h => br_f hg (tk_xit' hD (by omega) ?_)⟩
      rw [t1]
      exact br_t rfl h
    · obtain ⟨r, h1, hX⟩ := ih (c + 1) (by omega)
      refine ⟨r, tk_G_skip h1 (by rw [t1]; decide), fun post h => br_f hg (tk_xit' hD (by omega) ?_)⟩
      rw [t1]
      exact br_f (by decide) (nm_r (nI_1 c) (hX post h))
theorem tk_ymk34 (hD : ∀ i, i < 24 → ds i ≤ 6) : ∀ c, c ≤ 3 → ∀ f, tk_G ds c f → ∃ r : Int32, tk_G ds 0 r ∧ ∀ (post : SY → Prop) (x1 x2 x3 x4 x5 : Int32), wY_makePipe_34 post x1 x2 x3 x4 x5 qn ey py cw fy ty pm sy rg (tk_nf ds) me wo fi qa oy 1 r (-1) → wY_makePipe_34 post x1 x2 x3 x4 x5 qn ey py cw fy ty pm sy rg (tk_nf ds) me wo fi qa oy (c + 1) f (nI c + (-1)) := by
  intro c
  induction c with
  | zero =>
    intro _ f hf
    refine ⟨f, hf, fun post x1 x2 x3 x4 x5 h => ?_⟩
    rw [show nI 0 + (-1) = (-1 : Int32) by decide]
    exact h
  | succ c ih =>
    intro hc f hf
    rw [pk_m1]
    have hg : ¬ nI c < 0 := nI_pos (by omega)
    rcases tk_th_c ds c with ⟨t1, _⟩ | ⟨t1, _⟩
    · obtain ⟨r, h1, hY⟩ := ih (by omega) (nI c) (Or.inl ⟨c, by omega, by omega, rfl, t1, fun i _ _ => by omega⟩)
      refine ⟨r, h1, fun post x1 x2 x3 x4 x5 h => br_f hg (tk_yit hD (by omega) ?_)⟩
      rw [t1]
      exact br_t rfl (nm_e (hY post x1 x2 x3 x4 x5 h))
    · obtain ⟨r, h1, hY⟩ := ih (by omega) f (tk_G_skip hf (by rw [t1]; decide))
      refine ⟨r, h1, fun post x1 x2 x3 x4 x5 h => br_f hg (tk_yit hD (by omega) ?_)⟩
      rw [t1]
      exact br_f (by decide) (nm_e (hY post x1 x2 x3 x4 x5 h))
/-- a new pipe's tables -/
theorem tk_D_mk {a b k : Nat} (hD : tk_D ds rd wr ps pk pw wo fi) (ha : a < 24) (hb : b < 24) (hab : a ≠ b) (hk : k < 3) (za : ds a = 0) (zb : ds b = 0) (ht : tk_cn ds (1 + 2 * k) 24 + tk_cn ds (2 + 2 * k) 24 = 0) : tk_D (tk_nu (tk_nu ds a (1 + 2 * k)) b (2 + 2 * k)) (tk_nu rd k 1) (tk_nu wr k 1) (tk_nu ps k 0) (tk_nu pk k 0) pw wo (upd fi k 0) := by
  have zb' : tk_nu ds a (1 + 2 * k) b = 0 := by rw [tk_nun (fun e => hab e.symm)]; exact zb
  refine ⟨fun i hi => ?_, fun j hj => ?_, fun j hj h => ?_⟩
  · by_cases c : i = b
    · subst c; rw [tk_nus]; omega
    · rw [tk_nun c]
      by_cases c2 : i = a
      · subst c2; rw [tk_nus]; omega
      · rw [tk_nun c2]; exact hD.1 i hi
  · have c1 := tk_cn_nu (g := ds) (v := 1 + 2 * j) (k := a) (x := 1 + 2 * k) 24 ha
    have c2 := tk_cn_nu (g := ds) (v := 2 + 2 * j) (k := a) (x := 1 + 2 * k) 24 ha
    have c3 := tk_cn_nu (g := tk_nu ds a (1 + 2 * k)) (v := 1 + 2 * j) (k := b) (x := 2 + 2 * k) 24 hb
    have c4 := tk_cn_nu (g := tk_nu ds a (1 + 2 * k)) (v := 2 + 2 * j) (k := b) (x := 2 + 2 * k) 24 hb
    rw [zb'] at c3 c4
    rw [za] at c1 c2
    have d1 := (hD.2.1 j hj).1
    have d2 := (hD.2.1 j hj).2
    by_cases e : j = k
    · subst e
      rw [tk_nus, tk_nus]
      rw [if_neg (by omega), if_pos rfl] at c1 c4
      rw [if_neg (by omega), if_neg (by omega)] at c2 c3
      omega
    · rw [tk_nun e, tk_nun e]
      rw [if_neg (by omega), if_neg (by omega)] at c1 c2 c3 c4
      omega
  · by_cases e : j = k
    · subst e
      rw [pk_us, tk_nus, tk_nus]
      exact ⟨rfl, by omega, by omega, fun i hi => by omega⟩
    · rw [pk_un e, tk_nun e, tk_nun e]
      rw [tk_nun e, tk_nun e] at h
      exact hD.2.2 j hj h
theorem tk_mk {p a b : Nat} (hp : p < 6) (ha : a < 4) (hb : b < 4) (hD : tk_D ds rd wr ps pk pw wo fi) : ∃ (ds' rd' wr' ps' pk' : Nat → Nat) (rg' fi' : Nat → Int32), (tk_D ds' rd' wr' ps' pk' pw wo fi' ∧ ∀ j, j / 4 ≠ p → ds' j = ds j) ∧ (∀ post : SX → Prop, post (fq, lq, hd, pn, ex, pr, lv, op, fA, fB, fN, st, sp, pa, rg', tk_nf ds', bh, tk_nf ps', tk_nf pk', pw, tk_nf rd', tk_nf wr', en, sh, lt, fr, ms, mv, ol) → wpX_makePipe post (fq, lq, hd, pn, ex, pr, lv, op, fA, fB, fN, st, sp, pa, rg, tk_nf ds, bh, tk_nf ps, tk_nf pk, pw, tk_nf rd, tk_nf wr, en, sh, lt, fr, ms, mv, ol) (nI p) (nI a) (nI b)) ∧ (∀ post : SY → Prop, post (qn, ey, py, cw, fy, ty, pm, sy, rg', tk_nf ds', me, wo, fi', qa, oy) → wpY_makePipe post (qn, ey, py, cw, fy, ty, pm, sy, rg, tk_nf ds, me, wo, fi, qa, oy) (nI p) (nI a) (nI b)) := by
  obtain ⟨r1, e1, X1, Y1⟩ := tk_ed (fq := fq) (lq := lq) (hd := hd) (pn := pn) (ex := ex) (pr := pr) (lv := lv) (op := op) (fA := fA) (fB := fB) (fN := fN) (st := st) (sp := sp) (pa := pa) (bh := bh) (en := en) (sh := sh) (lt := lt) (fr := fr) (ms := ms) (mv := mv) (ol := ol) (rg := rg) (rd := rd) (wr := wr) (ps := ps) (pk := pk) (pw := pw) (qn := qn) (ey := ey) (py := py) (cw := cw) (fy := fy) (pm := pm) (sy := sy) (ty := ty) (me := me) (qa := qa) (oy := oy) (wo := wo) (fi := fi) (d := 0) hp (by omega) hD.1
  obtain ⟨rf, g1, Xf⟩ := tk_xfp2 (fq := fq) (lq := lq) (hd := hd) (pn := pn) (ex := ex) (pr := pr) (lv := lv) (op := op) (fA := fA) (fB := fB) (fN := fN) (st := st) (sp := sp) (pa := pa) (bh := bh) (en := en) (sh := sh) (lt := lt) (fr := fr) (ms := ms) (mv := mv) (ol := ol) (rg := rg) hD 3 0 rfl
  obtain ⟨rf', g2, Yf⟩ := tk_ymk34 (qn := qn) (ey := ey) (py := py) (cw := cw) (fy := fy) (pm := pm) (sy := sy) (ty := ty) (me := me) (qa := qa) (oy := oy) (rg := rg) (wo := wo) (fi := fi) hD.1 3 (by omega) (-1) (Or.inr ⟨rfl, fun k _ _ => by omega⟩)
  obtain rfl := tk_G_u g1 g2
  have i4a := tk_i4 p a
  have i4b := tk_i4 p b
  rcases e1 with e1 | ⟨x, _, x2, x3, x4⟩
  · subst e1
    exact ⟨ds, rd, wr, ps, pk, upd rg (4 * p + a) (-1), fi, ⟨hD, fun _ _ => rfl⟩, fun post h => X1 _ (br_f tk_nn1 (Exists.intro 4 (Xf _ (br_t tk_n1 (tk_st (4 * p + a) (-1) (by omega) h i4a))))), fun post h => Y1 _ (br_f tk_nn1 (Exists.intro 4 (Yf _ _ _ _ _ _ (br_t tk_n1 (br_t tk_n1 (tk_st (4 * p + a) (-1) (by omega) h i4a))))))⟩
  · subst x3
    obtain ⟨r2, e2, X2, Y2⟩ := tk_ed (fq := fq) (lq := lq) (hd := hd) (pn := pn) (ex := ex) (pr := pr) (lv := lv) (op := op) (fA := fA) (fB := fB) (fN := fN) (st := st) (sp := sp) (pa := pa) (bh := bh) (en := en) (sh := sh) (lt := lt) (fr := fr) (ms := ms) (mv := mv) (ol := ol) (rg := rg) (rd := rd) (wr := wr) (ps := ps) (pk := pk) (pw := pw) (qn := qn) (ey := ey) (py := py) (cw := cw) (fy := fy) (pm := pm) (sy := sy) (ty := ty) (me := me) (qa := qa) (oy := oy) (wo := wo) (fi := fi) (d := x + 1) hp (by omega) hD.1
    rw [← nI_1] at X2 Y2
    have hx0 : (0 : Int32) ≤ nI x := nI_pos' (by omega)
    rcases e2 with e2 | ⟨y, y1, y2, y3, y4⟩
    · subst e2
      exact ⟨ds, rd, wr, ps, pk, upd rg (4 * p + a) (-1), fi, ⟨hD, fun _ _ => rfl⟩, fun post h => X1 _ (br_t hx0 (X2 _ (Exists.intro 4 (Xf _ (br_t tk_n1 (tk_st (4 * p + a) (-1) (by omega) h i4a)))))), fun post h => Y1 _ (br_t hx0 (Y2 _ (Exists.intro 4 (Yf _ _ _ _ _ _ (br_t tk_n1 (br_t tk_n1 (tk_st (4 * p + a) (-1) (by omega) h i4a)))))))⟩
    · subst y3
      have hy0 : ¬ nI y < 0 := nI_pos (by omega)
      rcases g1 with ⟨k, _, k2, k3, k4, _⟩ | ⟨k1, _⟩
      · subst k3
        have hk0 : (0 : Int32) ≤ nI k := nI_pos' (by omega)
        have ht : tk_cn ds (1 + 2 * k) 24 + tk_cn ds (2 + 2 * k) 24 = 0 := by
          rcases tk_th_c ds k with t | t
          · exact t.2
          · rw [t.1] at k4; exact absurd k4 (by decide)
        have o1 : 1 + 2 * nI k = nI (1 + 2 * k) := by rw [tk_m2]; exact nI_add 1 (2 * k)
        have o2 : 2 + 2 * nI k = nI (2 + 2 * k) := by rw [tk_m2]; exact nI_add 2 (2 * k)
        have hj : ∀ j, j / 4 ≠ p → tk_nu (tk_nu ds (4 * p + x) (1 + 2 * k)) (4 * p + y) (2 + 2 * k) j = ds j := fun j hj => by rw [tk_nun (by omega), tk_nun (by omega)]
        refine ⟨_, _, _, _, _, upd (upd rg (4 * p + a) (nI x)) (4 * p + b) (nI y), _, ⟨tk_D_mk hD (a := 4 * p + x) (b := 4 * p + y) (by omega) (by omega) (by omega) k2 x4 y4 ht, hj⟩, fun post h => X1 _ (br_t hx0 (X2 _ (Exists.intro 4 (Xf _ (br_f hy0 (br_t hk0 ?_)))))), fun post h => Y1 _ (br_t hx0 (Y2 _ (Exists.intro 4 (Yf _ _ _ _ _ _ (br_t tk_n1 (br_f hy0 (br_t hk0 ?_)))))))⟩
        · exact tk_sn (4 * p + x) (1 + 2 * k) (by omega) (tk_sn (4 * p + y) (2 + 2 * k) (by omega) (tk_sn k 1 k2 (tk_sn k 1 k2 (tk_sn k 0 k2 (tk_sn k 0 k2 (tk_st (4 * p + a) (nI x) (by omega) (tk_st (4 * p + b) (nI y) (by omega) h i4b) i4a) rfl (tk_vb 0)) rfl (tk_vb 0)) rfl (tk_vb 1)) rfl (tk_vb 1)) (tk_i4 p y) (tk_vbb (2 + 2 * k) o2)) (tk_i4 p x) (tk_vbb (1 + 2 * k) o1)
        · exact tk_st k 0 k2 (tk_sn (4 * p + x) (1 + 2 * k) (by omega) (tk_sn (4 * p + y) (2 + 2 * k) (by omega) (tk_st (4 * p + a) (nI x) (by omega) (tk_st (4 * p + b) (nI y) (by omega) h i4b) i4a) (tk_i4 p y) o2) (tk_i4 p x) o1)
      · subst k1
        exact ⟨ds, rd, wr, ps, pk, upd rg (4 * p + a) (-1), fi, ⟨hD, fun _ _ => rfl⟩, fun post h => X1 _ (br_t hx0 (X2 _ (Exists.intro 4 (Xf _ (br_f hy0 (br_f tk_nn1 (tk_st (4 * p + a) (-1) (by omega) h i4a))))))), fun post h => Y1 _ (br_t hx0 (Y2 _ (Exists.intro 4 (Yf _ _ _ _ _ _ (br_t tk_n1 (br_f hy0 (br_f tk_nn1 (tk_st (4 * p + a) (-1) (by omega) h i4a))))))))⟩
/-- Y's shift -/
theorem tk_yrd40 {post : Int32 → SY → Prop} {k : Nat} {x : Int32} {m : Nat} (hk : k < 3) (hm : 1 ≤ m) (hf : fi k = nI m) (h : post x (qn, ey, py, cw, fy, ty, pm, sy, rg, tk_nf ds, me, tk_cp wo wo (4 * k) (4 * k + 1) 3, upd fi k (nI (m - 1)), qa, oy)) : ∀ d c, c + d = 3 → wY_read_40 post (nI k) x qn ey py (d + 1) (nI (4 * k + c)) cw fy ty pm sy rg (tk_nf ds) me (tk_cp wo wo (4 * k) (4 * k + 1) c) fi qa oy := by
  have e3 : 4 * nI k + 3 = nI (4 * k + 3) := by rw [tk_m4]; exact nI_add (4 * k) 3
  intro d
  induction d with
  | zero =>
    intro c hc
    obtain rfl : c = 3 := by omega
    refine pk_le (4 * k + 3) (4 * k + 3) (fun _ => And.intro (pk_in k 3 hk) (tk_st k (nI (m - 1)) hk h rfl ?_)) (fun z => absurd z (by omega)) e3
    rw [tk_ri (a := fi) k, hf]
    exact tk_s1 hm
  | succ d ih =>
    intro c hc
    refine pk_le (4 * k + 3) (4 * k + c) (fun z => absurd z (by omega)) (fun _ => ?_) e3
    refine And.intro (pk_in (4 * k + c + 1) 12 (by omega) (nI_1 _)) (tk_st (4 * k + c) (wo (4 * k + 1 + c)) (by omega) (nm_r (nI_1 _) ?_) rfl ?_)
    · rw [tk_cps]
      exact ih (c + 1) (by omega)
    · rw [tk_ri (a := tk_cp wo wo (4 * k) (4 * k + 1) c) (4 * k + 1 + c) ((nI_1 _).trans (congrArg nI (by omega)))]
      exact tk_cpo (by omega)
/-- a read, for both -/
theorem tk_rd {e i : Nat} (hD : tk_D ds rd wr ps pk pw wo fi) (he : e ≤ 6) (hi : i < 24) (hie : e = 0 ∨ ds i = e) : ∃ (r : Int32) (ps' pk' : Nat → Nat) (wo' fi' : Nat → Int32), tk_D ds rd wr ps' pk' pw wo' fi' ∧ (∀ post : Int32 → SX → Prop, post r (fq, lq, hd, pn, ex, pr, lv, op, fA, fB, fN, st, sp, pa, rg, tk_nf ds, bh, tk_nf ps', tk_nf pk', pw, tk_nf rd, tk_nf wr, en, sh, lt, fr, ms, mv, ol) → wpX_readPipe post (fq, lq, hd, pn, ex, pr, lv, op, fA, fB, fN, st, sp, pa, rg, tk_nf ds, bh, tk_nf ps, tk_nf pk, pw, tk_nf rd, tk_nf wr, en, sh, lt, fr, ms, mv, ol) (nI e)) ∧ (∀ post : Int32 → SY → Prop, post r (qn, ey, py, cw, fy, ty, pm, sy, rg, tk_nf ds, me, wo', fi', qa, oy) → wpY_read post (qn, ey, py, cw, fy, ty, pm, sy, rg, tk_nf ds, me, wo, fi, qa, oy) (nI e)) := by
  have er : nI e - nI e / 2 * 2 = nI (e % 2) := pk_rem (d := 2) (by omega) (by decide) (by decide)
  by_cases c : e % 2 = 0
  · refine ⟨-1, ps, pk, wo, fi, hD, fun post h => pk_eq e 0 (fun _ => h) (fun z => tk_xir (by omega) ?_), fun post h => And.intro (by decide) (br_t ?_ h)⟩
    · rw [c]; exact br_t rfl h
    · rw [er, c]; rfl
  · have c1 : e % 2 = 1 := by omega
    have hk : (e - 1) / 2 < 3 := by omega
    have ht : 0 < rd ((e - 1) / 2) + wr ((e - 1) / 2) := by
      have := (hD.2.1 _ hk).1
      have : 0 < tk_cn ds (1 + 2 * ((e - 1) / 2)) 24 := tk_cn_pos 24 hi (by omega)
      omega
    obtain ⟨f1, f2, f3, f4⟩ := hD.2.2 _ hk ht
    have po := tk_po (e := e) (by omega) (by omega)
    generalize hke : (e - 1) / 2 = k at *
    have X0 : ∀ post : Int32 → SX → Prop, (pk k = 0 → post (-2) (fq, lq, hd, pn, ex, pr, lv, op, fA, fB, fN, st, sp, pa, rg, tk_nf ds, bh, tk_nf ps, tk_nf pk, pw, tk_nf rd, tk_nf wr, en, sh, lt, fr, ms, mv, ol)) → (pk k ≠ 0 → post (pw (4 * k + ps k)) (fq, lq, hd, pn, ex, pr, lv, op, fA, fB, fN, st, sp, pa, rg, tk_nf ds, bh, tk_nf (tk_nu ps k ((ps k + 1) % 4)), tk_nf (tk_nu pk k (pk k - 1)), pw, tk_nf rd, tk_nf wr, en, sh, lt, fr, ms, mv, ol)) → wpX_readPipe post (fq, lq, hd, pn, ex, pr, lv, op, fA, fB, fN, st, sp, pa, rg, tk_nf ds, bh, tk_nf ps, tk_nf pk, pw, tk_nf rd, tk_nf wr, en, sh, lt, fr, ms, mv, ol) (nI e) := by
      intro post h1 h2
      refine pk_eq e 0 (fun z => absurd z (by omega)) (fun z => tk_xir (by omega) ?_)
      rw [c1]
      refine br_f (by decide) (tk_xpo (by omega) (by omega) ?_)
      rw [hke]
      have ek : 4 * nI k + tk_nf ps (nI k).toNatClampNeg = nI (4 * k + ps k) := by rw [tk_rn ps k, tk_i4]
      refine And.intro (pk_in k 3 hk) (pk_eq (pk k) 0 (fun z => h1 z) (fun z => And.intro (pk_in k 3 hk) (tk_ld (4 * k + ps k) (pw (4 * k + ps k)) (by omega) (And.intro (pk_in k 3 hk) (tk_sn k ((ps k + 1) % 4) hk (And.intro (pk_in k 3 hk) (tk_sn k (pk k - 1) hk (h2 z) rfl (tk_vbb (pk k - 1) ?_))) rfl (tk_vbb ((ps k + 1) % 4) ?_))) ek)) (tk_rn pk k))
      · rw [tk_rn pk k]; exact tk_s1 (by omega)
      · rw [tk_rn ps k, nI_1]; exact pk_andN (by omega) 2 (by decide)
    have Y0 : ∀ post : Int32 → SY → Prop, (pk k = 0 → post (-2) (qn, ey, py, cw, fy, ty, pm, sy, rg, tk_nf ds, me, wo, fi, qa, oy)) → (pk k ≠ 0 → post (wo (4 * k)) (qn, ey, py, cw, fy, ty, pm, sy, rg, tk_nf ds, me, tk_cp wo wo (4 * k) (4 * k + 1) 3, upd fi k (nI (pk k - 1)), qa, oy)) → wpY_read post (qn, ey, py, cw, fy, ty, pm, sy, rg, tk_nf ds, me, wo, fi, qa, oy) (nI e) := by
      intro post h1 h2
      refine And.intro (by decide) (br_f (by rw [er, c1]; decide) (And.intro (by decide) (nm_r po (And.intro (pk_in k 3 hk) (pk_eq (pk k) 0 (fun z => h1 z) (fun z => tk_ld (4 * k) (wo (4 * k)) (by omega) (nm_r (tk_m4 k) (Exists.intro 4 ?_)) (tk_m4 k)) ((tk_ri k).trans f1))))))
      have w := tk_yrd40 hk (by omega) f1 (h2 z) 3 0 rfl
      rw [tk_cp0] at w
      exact w
    by_cases z : pk k = 0
    · exact ⟨-2, ps, pk, wo, fi, hD, fun post h => X0 post (fun _ => h) (fun y => absurd z y), fun post h => Y0 post (fun _ => h) (fun y => absurd z y)⟩
    · refine ⟨wo (4 * k), tk_nu ps k ((ps k + 1) % 4), tk_nu pk k (pk k - 1), tk_cp wo wo (4 * k) (4 * k + 1) 3, upd fi k (nI (pk k - 1)), ⟨hD.1, hD.2.1, fun j hj h => ?_⟩, fun post h => X0 post (fun y => absurd y z) (fun _ => ?_), fun post h => Y0 post (fun y => absurd y z) (fun _ => h)⟩
      · by_cases ej : j = k
        · subst ej
          rw [pk_us, tk_nus, tk_nus]
          refine ⟨rfl, by omega, by omega, fun i hi => ?_⟩
          rw [tk_cpi (by omega), show 4 * j + 1 + i = 4 * j + (i + 1) by omega, f4 (i + 1) (by omega)]
          exact congrArg pw (by omega)
        · obtain ⟨g1, g2, g3, g4⟩ := hD.2.2 j hj h
          rw [pk_un ej, tk_nun ej, tk_nun ej]
          refine ⟨g1, g2, g3, fun i hi => ?_⟩
          rw [tk_cpo (by omega)]
          exact g4 i hi
      · have e0 := f4 0 (by omega)
        rw [show (ps k + 0) % 4 = ps k by omega] at e0
        rw [← e0]
        exact h
/-- a write, for both: to no end or to a reading one; without readers; into the ring -/
theorem tk_wt {p a e i : Nat} (hp : p < 6) (ha : a < 4) (hD : tk_D ds rd wr ps pk pw wo fi) (he : e ≤ 6) (hi : i < 24) (hie : e = 0 ∨ ds i = e) (hw : e ≠ 0 → e % 2 = 0 → 0 < tk_cn ds (e - 1) 24 → pk ((e - 1) / 2) ≠ 4) : (∃ (pk' : Nat → Nat) (rg' pw' wo' fi' : Nat → Int32), tk_D ds rd wr ps pk' pw' wo' fi' ∧ (∀ post : Int32 → SX → Prop, post 1 (fq, lq, hd, pn, ex, pr, lv, op, fA, fB, fN, st, sp, pa, rg', tk_nf ds, bh, tk_nf ps, tk_nf pk', pw', tk_nf rd, tk_nf wr, en, sh, lt, fr, ms, mv, ol) → wpX_writePipe post (fq, lq, hd, pn, ex, pr, lv, op, fA, fB, fN, st, sp, pa, rg, tk_nf ds, bh, tk_nf ps, tk_nf pk, pw, tk_nf rd, tk_nf wr, en, sh, lt, fr, ms, mv, ol) (nI p) (nI e) (nI a)) ∧ (∀ post : Int32 → SY → Prop, post 1 (qn, ey, py, cw, fy, ty, pm, sy, rg', tk_nf ds, me, wo', fi', qa, oy) → wpY_write post (qn, ey, py, cw, fy, ty, pm, sy, rg, tk_nf ds, me, wo, fi, qa, oy) (nI p) (nI a) (nI e))) ∨ ((∀ post : Int32 → SX → Prop, post 0 (fq, lq, hd, pn, ex, pr, lv, op, fA, fB, fN, st, sp, pa, rg, tk_nf ds, bh, tk_nf ps, tk_nf pk, pw, tk_nf rd, tk_nf wr, en, sh, lt, fr, ms, mv, ol) → wpX_writePipe post (fq, lq, hd, pn, ex, pr, lv, op, fA, fB, fN, st, sp, pa, rg, tk_nf ds, bh, tk_nf ps, tk_nf pk, pw, tk_nf rd, tk_nf wr, en, sh, lt, fr, ms, mv, ol) (nI p) (nI e) (nI a)) ∧ (∀ (v : SY) (post : Int32 → SY → Prop), (∀ P : SY → Prop, P v → wpY_end P (qn, ey, py, cw, fy, ty, pm, sy, rg, tk_nf ds, me, wo, fi, qa, oy) (nI p) (-2)) → post 0 v → wpY_write post (qn, ey, py, cw, fy, ty, pm, sy, rg, tk_nf ds, me, wo, fi, qa, oy) (nI p) (nI a) (nI e))) := by
  have er : nI e - nI e / 2 * 2 = nI (e % 2) := pk_rem (d := 2) (by omega) (by decide) (by decide)
  have i4 := tk_i4 p a
  by_cases z : e = 0
  · subst z
    exact Or.inl ⟨pk, upd rg (4 * p + a) (-1), pw, wo, fi, hD, fun post h => br_t rfl (tk_st (4 * p + a) (-1) (by omega) h i4), fun post h => br_t rfl (tk_st (4 * p + a) (-1) (by omega) h i4)⟩
  · have z' : ¬ nI e = 0 := nI_ne0 (by omega) (by omega)
    by_cases c : e % 2 = 1
    · refine Or.inl ⟨pk, upd rg (4 * p + a) (-1), pw, wo, fi, hD, fun post h => br_f z' (tk_xir (by omega) ?_), fun post h => br_f z' (And.intro (by decide) (br_t ?_ (tk_st (4 * p + a) (-1) (by omega) h i4)))⟩
      · rw [c]
        exact br_f (by decide) (tk_st (4 * p + a) (-1) (by omega) h i4)
      · rw [er, c]; rfl
    · have c0 : e % 2 = 0 := by omega
      have hk : (e - 1) / 2 < 3 := by omega
      have ek : e = 2 + 2 * ((e - 1) / 2) := by omega
      have ht : 0 < rd ((e - 1) / 2) + wr ((e - 1) / 2) := by
        have := (hD.2.1 _ hk).2
        have : 0 < tk_cn ds (2 + 2 * ((e - 1) / 2)) 24 := tk_cn_pos 24 hi (by omega)
        omega
      obtain ⟨f1, f2, f3, f4⟩ := hD.2.2 _ hk ht
      have hr := (hD.2.1 _ hk).1
      have hb := tk_Drd hD hk
      have po := tk_po (e := e) (by omega) (by omega)
      have e1 : nI e - 1 = nI (e - 1) := tk_s1 (by omega)
      have w4 := hw z c0
      rw [show e - 1 = 1 + 2 * ((e - 1) / 2) by omega] at w4 e1
      rw [show (1 + 2 * ((e - 1) / 2)) / 2 = (e - 1) / 2 by omega] at w4
      generalize hke : (e - 1) / 2 = k at *
      by_cases r0 : rd k = 0
      · refine Or.inr ⟨fun post h => br_f z' (tk_xir (by omega) ?_), fun v post hv h => br_f z' (And.intro (by decide) (br_f (by rw [er, c0]; decide) (And.intro (by decide) (nm_r po (tk_yhas (e := 1 + 2 * k) hD.1 (by omega) e1 ?_)))))⟩
        · rw [c0]
          refine br_t rfl (tk_xpo (by omega) (by omega) ?_)
          rw [hke]
          exact And.intro (pk_in k 3 hk) (pk_eq (rd k) 0 (fun _ => h) (fun y => absurd r0 y) (tk_rn rd k))
        · rw [if_pos (by omega)]
          exact br_t rfl (hv _ (by obtain ⟨_, _, _, _, _, _, _, _, _, _, _, _, _, _, _⟩ := v; exact h))
      · have hp4 : pk k < 4 := by
          have := w4 (by omega)
          omega
        refine Or.inl ⟨tk_nu pk k (pk k + 1), rg, upd pw (4 * k + (ps k + pk k) % 4) (rg (4 * p + a)), upd wo (4 * k + pk k) (rg (4 * p + a)), upd fi k (nI (pk k + 1)), ⟨hD.1, hD.2.1, fun j hj h => ?_⟩, fun post h => br_f z' (tk_xir (by omega) ?_), fun post h => br_f z' (And.intro (by decide) (br_f (by rw [er, c0]; decide) (And.intro (by decide) (nm_r po (tk_yhas (e := 1 + 2 * k) hD.1 (by omega) e1 ?_)))))⟩
        · by_cases ej : j = k
          · subst ej
            rw [pk_us, tk_nus]
            refine ⟨rfl, by omega, f3, fun i hi => ?_⟩
            by_cases ei : i = pk j
            · subst ei; rw [pk_us, pk_us]
            · rw [pk_un (by omega), pk_un (by omega)]
              exact f4 i (by omega)
          · obtain ⟨g1, g2, g3, g4⟩ := hD.2.2 j hj h
            rw [pk_un ej, tk_nun ej]
            refine ⟨g1, g2, g3, fun i hi => ?_⟩
            rw [pk_un (by omega), pk_un (by omega)]
            exact g4 i hi
        · rw [c0]
          refine br_t rfl (tk_xpo (by omega) (by omega) ?_)
          rw [hke]
          have ew : 4 * nI k + ((tk_nf ps (nI k).toNatClampNeg + tk_nf pk (nI k).toNatClampNeg) &&& 3) = nI (4 * k + (ps k + pk k) % 4) := by
            rw [tk_rn ps k, tk_rn pk k, nI_add, show nI (ps k + pk k) &&& 3 = nI ((ps k + pk k) % 4) from pk_andN (by omega) 2 (by decide), tk_i4]
          refine And.intro (pk_in k 3 hk) (pk_eq (rd k) 0 (fun y => absurd y r0) (fun _ => And.intro (pk_in k 3 hk) (And.intro (pk_in k 3 hk) (And.intro (pk_in (4 * p + a) 24 (by omega) i4) (tk_st (4 * k + (ps k + pk k) % 4) (rg (4 * p + a)) (by omega) (And.intro (pk_in k 3 hk) (tk_sn k (pk k + 1) hk h rfl (tk_vbb (pk k + 1) ?_))) ew (tk_ri (4 * p + a) i4))))) (tk_rn rd k))
          rw [tk_rn pk k]; exact nI_1 _
        · rw [if_neg (by omega)]
          have ew : 4 * nI k + fi (nI k).toNatClampNeg = nI (4 * k + pk k) := by rw [tk_ri (a := fi) k, f1, tk_i4]
          refine br_f (by decide) (And.intro (pk_in k 3 hk) (And.intro (pk_in (4 * p + a) 24 (by omega) i4) (tk_st (4 * k + pk k) (rg (4 * p + a)) (by omega) (And.intro (pk_in k 3 hk) (tk_st k (nI (pk k + 1)) hk h rfl ?_)) ew (tk_ri (4 * p + a) i4))))
          rw [tk_ri (a := fi) k, f1]
          exact nI_1 _
/-- an end copied, for both -/
theorem tk_cy {p e b : Nat} (hp : p < 6) (hD : tk_D ds rd wr ps pk pw wo fi) (hb : b < 24) (hbe : e = 0 ∨ ds b = e) : ∃ (r : Int32) (ds' rd' wr' : Nat → Nat), (tk_D ds' rd' wr' ps pk pw wo fi ∧ ∀ j, j / 4 ≠ p → ds' j = ds j) ∧ (∀ post : Int32 → SX → Prop, post r (fq, lq, hd, pn, ex, pr, lv, op, fA, fB, fN, st, sp, pa, rg, tk_nf ds', bh, tk_nf ps, tk_nf pk, pw, tk_nf rd', tk_nf wr', en, sh, lt, fr, ms, mv, ol) → wpX_copyEnd post (fq, lq, hd, pn, ex, pr, lv, op, fA, fB, fN, st, sp, pa, rg, tk_nf ds, bh, tk_nf ps, tk_nf pk, pw, tk_nf rd, tk_nf wr, en, sh, lt, fr, ms, mv, ol) (nI p) (nI e)) ∧ (∀ post : Int32 → SY → Prop, post r (qn, ey, py, cw, fy, ty, pm, sy, rg, tk_nf ds', me, wo, fi, qa, oy) → wpY_copyEnd post (qn, ey, py, cw, fy, ty, pm, sy, rg, tk_nf ds, me, wo, fi, qa, oy) (nI p) (nI e)) := by
  obtain ⟨r1, e1, X1, Y1⟩ := tk_ed (fq := fq) (lq := lq) (hd := hd) (pn := pn) (ex := ex) (pr := pr) (lv := lv) (op := op) (fA := fA) (fB := fB) (fN := fN) (st := st) (sp := sp) (pa := pa) (bh := bh) (en := en) (sh := sh) (lt := lt) (fr := fr) (ms := ms) (mv := mv) (ol := ol) (rg := rg) (rd := rd) (wr := wr) (ps := ps) (pk := pk) (pw := pw) (qn := qn) (ey := ey) (py := py) (cw := cw) (fy := fy) (pm := pm) (sy := sy) (ty := ty) (me := me) (qa := qa) (oy := oy) (wo := wo) (fi := fi) (d := 0) hp (by omega) hD.1
  by_cases z : e = 0
  · subst z
    exact ⟨-1, ds, rd, wr, ⟨hD, fun _ _ => rfl⟩, fun post h => X1 _ (br_t rfl h), fun post h => Y1 _ (br_t rfl h)⟩
  · have hde : ds b = e := hbe.resolve_left z
    have h6 := hD.1 b hb
    have z' : ¬ nI e = 0 := nI_ne0 (by omega) (by omega)
    rcases e1 with e1 | ⟨x, _, x2, x3, x4⟩
    · subst e1
      exact ⟨-1, ds, rd, wr, ⟨hD, fun _ _ => rfl⟩, fun post h => X1 _ (br_f z' (br_f tk_nn1 h)), fun post h => Y1 _ (br_f z' (br_f tk_nn1 h))⟩
    · subst x3
      obtain ⟨rd', wr', D', C'⟩ := tk_put (fq := fq) (lq := lq) (hd := hd) (pn := pn) (ex := ex) (pr := pr) (lv := lv) (op := op) (fA := fA) (fB := fB) (fN := fN) (st := st) (sp := sp) (pa := pa) (bh := bh) (en := en) (sh := sh) (lt := lt) (fr := fr) (ms := ms) (mv := mv) (ol := ol) (rg := rg) hD (a := 4 * p + x) (b := b) (by omega) hb x4
      have hx0 : (0 : Int32) ≤ nI x := nI_pos' (by omega)
      subst hde
      refine ⟨nI x, _, rd', wr', ⟨D', fun j hj => by rw [tk_nun (by omega)]⟩, fun post h => X1 _ (br_f z' (br_t hx0 (tk_sn (4 * p + x) (ds b) (by omega) (C' _ h) (tk_i4 p x) (tk_vbb (ds b))))), fun post h => Y1 _ (br_f z' (br_t hx0 (tk_sn (4 * p + x) (ds b) (by omega) h (tk_i4 p x))))⟩
theorem tk_yc0 {post : Int32 → SY → Prop} {p b : Nat} (hp : p < 6) (hb : b < 4) (he : tk_eo ds p (rg (4 * p + b)) = 0) (h : post (-1) (qn, ey, py, cw, fy, ty, pm, sy, rg, tk_nf ds, me, wo, fi, qa, oy)) : wpY_close post (qn, ey, py, cw, fy, ty, pm, sy, rg, tk_nf ds, me, wo, fi, qa, oy) (nI p) (nI b) := by
  unfold wpY_close
  refine tk_yeo hp hb ?_
  rw [he]
  exact br_t rfl h
theorem tk_yc1 {post : Int32 → SY → Prop} {p b j : Nat} (hp : p < 6) (hb : b < 4) (hj : j < 4) (hr : rg (4 * p + b) = nI j) (hn : tk_eo ds p (rg (4 * p + b)) ≠ 0) (h6 : tk_eo ds p (rg (4 * p + b)) ≤ 6) (h : post 0 (qn, ey, py, cw, fy, ty, pm, sy, rg, tk_nf (tk_nu ds (4 * p + j) 0), me, wo, fi, qa, oy)) : wpY_close post (qn, ey, py, cw, fy, ty, pm, sy, rg, tk_nf ds, me, wo, fi, qa, oy) (nI p) (nI b) := by
  unfold wpY_close
  refine tk_yeo hp hb ?_
  refine br_f (nI_ne0 (by omega) (by omega)) (And.intro (pk_in (4 * p + b) 24 (by omega) (tk_i4 p b)) (tk_sn (4 * p + j) 0 (by omega) h ?_))
  rw [tk_ri (a := rg) (4 * p + b) (tk_i4 p b), hr]
  exact tk_i4 p j
end TKP2
end
section
section TKE
variable {q : List Nat} {hd : Nat} {ex : Int64} {pr lv : Int32} {op fA fB fN sp pa rg bh pw lt fr mv ol : Nat → Int32} {st ds ps pk rd wr en sh ms : Nat → Nat}
variable {py : Int32} {ey : Int64} {cw pm me wo fi qa fy sy gy oy : Nat → Int32}
/-- the queue -/
def tk_Q (q : List Nat) (st : Nat → Nat) (bh qa : Nat → Int32) : Prop := q.Nodup ∧ (∀ x, x ∈ q → x < 6 ∧ st x = 1) ∧ tk_ch bh q ∧ tk_qa qa q
/-- parents -/
def tk_P (st : Nat → Nat) (pa pm : Nat → Int32) : Prop := ∀ j, j < 6 → st j ≠ 0 → pm j = pa j ∧ (pa j = -1 ∨ ∃ r, r < 6 ∧ r ≠ j ∧ pa j = nI r)
/-- memory: what a live process sees -/
def tk_C (st en : Nat → Nat) (fr mv me : Nat → Int32) : Prop := ∀ p, p < 6 → (st p = 1 ∨ st p = 2) → ∀ i, i < 32 → me (32 * p + i) = tk_ct en fr mv (4 * p + i / 8) (i % 8)
/-- the others have nothing -/
def tk_Z (st ds en : Nat → Nat) : Prop := ∀ p, p < 6 → st p ≠ 1 → st p ≠ 2 → ∀ d, d < 4 → ds (4 * p + d) = 0 ∧ en (4 * p + d) = 0
/-- the whole but code, spots and printed -/
def tk_J (q : List Nat) (hd : Nat) (st ds ps pk rd wr en sh ms : Nat → Nat) (pa pm bh qa pw wo fi fr mv me : Nat → Int32) : Prop := tk_Q q st bh qa ∧ tk_P st pa pm ∧ tk_D ds rd wr ps pk pw wo fi ∧ (tk_M en sh ms ∧ hd < 10) ∧ tk_C st en fr mv me ∧ tk_Z st ds en ∧ ∀ j, st j ≤ 3
theorem tk_z4i {g : Nat → Nat} {p d : Nat} (h : d < 4) : tk_z4 g p (4 * p + d) = 0 := by
  show (if 4 * p + d = 4 * p + 3 then 0 else if 4 * p + d = 4 * p + 2 then 0 else if 4 * p + d = 4 * p + 1 then 0 else if 4 * p + d = 4 * p then 0 else g (4 * p + d)) = 0
  by_cases h3 : d = 3
  · rw [if_pos (by omega)]
  · rw [if_neg (by omega)]
    by_cases h2 : d = 2
    · rw [if_pos (by omega)]
    · rw [if_neg (by omega)]
      by_cases h1 : d = 1
      · rw [if_pos (by omega)]
      · rw [if_neg (by omega), if_pos (by omega)]
theorem tk_z4o {g : Nat → Nat} {p j : Nat} (h : j / 4 ≠ p) : tk_z4 g p j = g j := by
  show (if j = 4 * p + 3 then 0 else if j = 4 * p + 2 then 0 else if j = 4 * p + 1 then 0 else if j = 4 * p then 0 else g j) = g j
  rw [if_neg (by omega), if_neg (by omega), if_neg (by omega), if_neg (by omega)]
theorem tk_ct_c {en en' : Nat → Nat} {fr mv : Nat → Int32} {a w : Nat} (h : en' a = en a) : tk_ct en' fr mv a w = tk_ct en fr mv a w := by
  unfold tk_ct
  rw [h]
/-- the loop over children, and the end, for both -/
theorem tk_end31 {p : Nat} {res : Int32} (hp : p < 6) : ∀ (d c : Nat), c + d = 6 → ∀ (st : Nat → Nat) (pa pm : Nat → Int32), (∀ j, st j ≤ 3) → tk_P st pa pm → (st p = 1 ∨ st p = 2) → ∃ (st' : Nat → Nat) (pa' pm' : Nat → Int32), (tk_P st' pa' pm' ∧ (∀ j, st' j ≤ 3) ∧ (∀ j, j ≠ p → st' j = st j ∨ (st j = 3 ∧ st' j = 0)) ∧ (st' p = 0 ∨ st' p = 3)) ∧ (∀ post : SX → Prop, post (tk_oi q.head?, tk_oi q.getLast?, nI hd, -1, ex, pr, lv, op, fA, fB, fN, tk_nf st', upd sp p res, pa', rg, tk_nf ds, bh, tk_nf ps, tk_nf pk, pw, tk_nf rd, tk_nf wr, tk_nf en, tk_nf sh, lt, fr, tk_nf ms, mv, ol) → wX_end_31 post (nI p) res (tk_oi q.head?) (tk_oi q.getLast?) (nI hd) (-1) ex pr lv (d + 1) (nI c) op fA fB fN (tk_nf st) sp pa rg (tk_nf ds) bh (tk_nf ps) (tk_nf pk) pw (tk_nf rd) (tk_nf wr) (tk_nf en) (tk_nf sh) lt fr (tk_nf ms) mv ol) ∧ (∀ post : SY → Prop, post (nI q.length, ey, py, cw, fy, tk_nf st', pm', upd sy p res, gy, tk_nf ds, me, wo, fi, qa, oy) → wY_end_33 post (nI p) res (nI q.length) ey py (d + 1) (nI c) cw fy (tk_nf st) pm sy gy (tk_nf ds) me wo fi qa oy) := by
  intro d
  induction d with
  | zero =>
    intro c hc st pa pm h3 hP hal
    obtain rfl : c = 6 := by omega
    have hl : (6 : Int32) ≤ nI 6 := nI_le (a := 6) (b := 6) (by omega) (by decide)
    obtain ⟨e1, e2⟩ := hP p hp (by omega)
    have hPu : ∀ x, tk_P (tk_nu st p x) pa pm := by
      intro x j hj hn
      by_cases e : j = p
      · subst e; exact hP j hj (by omega)
      · rw [tk_nun e] at hn; exact hP j hj hn
    rcases e2 with e2 | ⟨r, r1, r2, r3⟩
    · refine ⟨tk_nu st p 0, pa, pm, ⟨hPu 0, fun j => ?_, fun j hj => Or.inl (tk_nun hj), Or.inl tk_nus⟩, fun post h => br_t hl (tk_st p res hp (And.intro (pk_in p 6 hp) (br_f ?_ (tk_sn p 0 hp h rfl (tk_vbb 0))))), fun post h => br_t hl (And.intro (pk_in p 6 hp) (br_f ?_ (tk_sn p 0 hp (tk_st p res hp h))))⟩
      · by_cases e : j = p
        · subst e; rw [tk_nus]; omega
        · rw [tk_nun e]; exact h3 j
      · rw [tk_ri (a := pa) p, e2]; exact tk_nn1
      · rw [tk_ri (a := pm) p, e1, e2]; exact tk_nn1
    · refine ⟨tk_nu st p 3, pa, pm, ⟨hPu 3, fun j => ?_, fun j hj => Or.inl (tk_nun hj), Or.inr tk_nus⟩, fun post h => br_t hl (tk_st p res hp (And.intro (pk_in p 6 hp) (br_t ?_ (tk_sn p 3 hp h rfl (tk_vbb 3))))), fun post h => br_t hl (And.intro (pk_in p 6 hp) (br_t ?_ (tk_sn p 3 hp (tk_st p res hp h))))⟩
      · by_cases e : j = p
        · subst e; rw [tk_nus]; omega
        · rw [tk_nun e]; exact h3 j
      · rw [tk_ri (a := pa) p, r3]; exact nI_pos' (by omega)
      · rw [tk_ri (a := pm) p, e1, r3]; exact nI_pos' (by omega)
  | succ d ih =>
    intro c hc st pa pm h3 hP hal
    have h3c := h3 c
    have hg := nI_ge (a := c) (b := 6) (by omega) (by decide)
    have hi : vp_in (nI c) 6 := vp_in_nI (by omega) (by decide)
    by_cases ec : c = p
    · subst ec
      obtain ⟨st', pa', pm', F, X, Y⟩ := ih (c + 1) (by omega) st pa pm h3 hP hal
      obtain ⟨e1, e2⟩ := hP c hp (by omega)
      have hne : ¬ pa (nI c).toNatClampNeg = nI c := by
        rw [tk_ri (a := pa) c]
        rcases e2 with e2 | ⟨r, r1, r2, r3⟩
        · rw [e2]; exact fun z => tk_ne1 (by omega) z.symm
        · rw [r3]; exact fun z => r2 (tk_inj z (by omega) (by omega))
      exact ⟨st', pa', pm', F, fun post h => br_f hg (And.intro hi (pk_eq (st c) 0 (fun z => absurd z (by omega)) (fun _ => And.intro hi (br_f hne (nm_r (nI_1 c) (X post h)))) (tk_rn st c))), fun post h => br_f hg (br_t rfl (nm_r (nI_1 c) (Y post h)))⟩
    · have hcp : ¬ nI c = nI p := fun z => ec (tk_inj z (by omega) (by omega))
      by_cases z : st c = 0
      · obtain ⟨st', pa', pm', F, X, Y⟩ := ih (c + 1) (by omega) st pa pm h3 hP hal
        exact ⟨st', pa', pm', F, fun post h => br_f hg (And.intro hi (pk_eq (st c) 0 (fun _ => nm_r (nI_1 c) (X post h)) (fun y => absurd z y) (tk_rn st c))), fun post h => br_f hg (br_f hcp (And.intro hi (pk_eq (st c) 0 (fun _ => nm_r (nI_1 c) (Y post h)) (fun y => absurd z y) (tk_rn st c))))⟩
      · obtain ⟨e1, e2⟩ := hP c (by omega) z
        by_cases y : pa c = nI p
        · have yX : pa (nI c).toNatClampNeg = nI p := (tk_ri c).trans y
          have yY : pm (nI c).toNatClampNeg = nI p := (tk_ri c).trans (e1.trans y)
          have hP' : ∀ g : Nat → Nat, (∀ j, j ≠ c → g j = st j) → tk_P g (upd pa c (-1)) (upd pm c (-1)) := by
            intro g hgs j hj hn
            by_cases e : j = c
            · subst e; rw [pk_us, pk_us]; exact ⟨rfl, Or.inl rfl⟩
            · rw [pk_un e, pk_un e]; exact hP j hj (by rw [← hgs j e]; exact hn)
          by_cases w : st c = 3
          · obtain ⟨st', pa', pm', ⟨F1, F2, F3, F4⟩, X, Y⟩ := ih (c + 1) (by omega) (tk_nu st c 0) (upd pa c (-1)) (upd pm c (-1)) (fun j => by
              by_cases e : j = c
              · subst e; rw [tk_nus]; omega
              · rw [tk_nun e]; exact h3 j) (hP' _ (fun j hj => tk_nun hj)) (by rw [tk_nun (fun e => ec e.symm)]; exact hal)
            refine ⟨st', pa', pm', ⟨F1, F2, fun j hj => ?_, F4⟩, fun post h => br_f hg (And.intro hi (pk_eq (st c) 0 (fun v => absurd v z) (fun _ => And.intro hi (br_t yX (tk_st c (-1) (by omega) (And.intro hi (pk_eq (st c) 3 (fun _ => tk_sn c 0 (by omega) (nm_r (nI_1 c) (X post h)) rfl (tk_vb 0)) (fun v => absurd w v) (tk_rn st c))) rfl tk_vm1))) (tk_rn st c))), fun post h => br_f hg (br_f hcp (And.intro hi (pk_eq (st c) 0 (fun v => absurd v z) (fun _ => And.intro hi (br_t yY (tk_st c (-1) (by omega) (And.intro hi (pk_eq (st c) 3 (fun _ => tk_sn c 0 (by omega) (nm_r (nI_1 c) (Y post h))) (fun v => absurd w v) (tk_rn st c)))))) (tk_rn st c))))⟩
            have := F3 j hj
            by_cases e : j = c
            · subst e
              rw [tk_nus] at this
              exact Or.inr ⟨w, by omega⟩
            · rw [tk_nun e] at this; exact this
          · obtain ⟨st', pa', pm', F, X, Y⟩ := ih (c + 1) (by omega) st (upd pa c (-1)) (upd pm c (-1)) h3 (hP' _ (fun j hj => rfl)) hal
            exact ⟨st', pa', pm', F, fun post h => br_f hg (And.intro hi (pk_eq (st c) 0 (fun v => absurd v z) (fun _ => And.intro hi (br_t yX (tk_st c (-1) (by omega) (And.intro hi (pk_eq (st c) 3 (fun v => absurd v w) (fun _ => nm_r (nI_1 c) (X post h)) (tk_rn st c))) rfl tk_vm1))) (tk_rn st c))), fun post h => br_f hg (br_f hcp (And.intro hi (pk_eq (st c) 0 (fun v => absurd v z) (fun _ => And.intro hi (br_t yY (tk_st c (-1) (by omega) (And.intro hi (pk_eq (st c) 3 (fun v => absurd v w) (fun _ => nm_r (nI_1 c) (Y post h)) (tk_rn st c)))))) (tk_rn st c))))⟩
        · have yX : ¬ pa (nI c).toNatClampNeg = nI p := fun v => y ((tk_ri c).symm.trans v)
          have yY : ¬ pm (nI c).toNatClampNeg = nI p := fun v => y (e1.symm.trans ((tk_ri c).symm.trans v))
          obtain ⟨st', pa', pm', F, X, Y⟩ := ih (c + 1) (by omega) st pa pm h3 hP hal
          exact ⟨st', pa', pm', F, fun post h => br_f hg (And.intro hi (pk_eq (st c) 0 (fun v => absurd v z) (fun _ => And.intro hi (br_f yX (nm_r (nI_1 c) (X post h)))) (tk_rn st c))), fun post h => br_f hg (br_f hcp (And.intro hi (pk_eq (st c) 0 (fun v => absurd v z) (fun _ => And.intro hi (br_f yY (nm_r (nI_1 c) (Y post h)))) (tk_rn st c))))⟩
/-- Y: the ends of a process are cleared -/
theorem tk_yend9 {post : SY → Prop} {p : Nat} {res : Int32} (hp : p < 6) {n : Nat} (h : wY_end_33 post (nI p) res (nI q.length) ey py n 0 cw fy (tk_nf st) pm sy gy (tk_nf (tk_z4 ds p)) me wo fi qa oy) : wY_end_9 post (nI p) res (nI q.length) ey py 5 (nI (4 * p)) cw fy (tk_nf st) pm sy gy (tk_nf ds) me wo fi qa oy := by
  have e4 : 4 * nI p + 4 = nI (4 * p + 4) := by rw [tk_m4]; exact nI_add (4 * p) 4
  refine pk_le (4 * p + 4) (4 * p) (fun z => absurd z (by omega)) (fun _ => tk_sn (4 * p) 0 (by omega) (nm_r (nI_1 _) ?_)) e4
  refine pk_le (4 * p + 4) (4 * p + 1) (fun z => absurd z (by omega)) (fun _ => tk_sn (4 * p + 1) 0 (by omega) (nm_r (nI_1 _) ?_)) e4
  refine pk_le (4 * p + 4) (4 * p + 1 + 1) (fun z => absurd z (by omega)) (fun _ => tk_sn (4 * p + 2) 0 (by omega) (nm_r (nI_1 _) ?_)) e4
  refine pk_le (4 * p + 4) (4 * p + 1 + 1 + 1) (fun z => absurd z (by omega)) (fun _ => tk_sn (4 * p + 3) 0 (by omega) (nm_r (nI_1 _) ?_)) e4
  exact pk_le (4 * p + 4) (4 * p + 1 + 1 + 1 + 1) (fun _ => Exists.intro n h) (fun z => absurd z (by omega)) e4
/-- the end of a process, for both -/
theorem tk_end {p : Nat} {res : Int32} (hp : p < 6) (hal : st p = 1 ∨ st p = 2) (h : tk_J q hd st ds ps pk rd wr en sh ms pa pm bh qa pw wo fi fr mv me) : ∃ (st' ds' pk' rd' wr' en' sh' ms' : Nat → Nat) (pa' pm' bh' qa' : Nat → Int32), (tk_J (tk_rm p q) hd st' ds' ps pk' rd' wr' en' sh' ms' pa' pm' bh' qa' pw wo fi fr mv me ∧ (∀ j, j ≠ p → st' j = st j ∨ (st j = 3 ∧ st' j = 0)) ∧ (st' p = 0 ∨ st' p = 3)) ∧ (∀ post : SX → Prop, post (tk_oi (tk_rm p q).head?, tk_oi (tk_rm p q).getLast?, nI hd, -1, ex, pr, lv, op, fA, fB, fN, tk_nf st', upd sp p res, pa', rg, tk_nf ds', bh', tk_nf ps, tk_nf pk', pw, tk_nf rd', tk_nf wr', tk_nf en', tk_nf sh', lt, fr, tk_nf ms', mv, ol) → wpX_end post (tk_oi q.head?, tk_oi q.getLast?, nI hd, -1, ex, pr, lv, op, fA, fB, fN, tk_nf st, sp, pa, rg, tk_nf ds, bh, tk_nf ps, tk_nf pk, pw, tk_nf rd, tk_nf wr, tk_nf en, tk_nf sh, lt, fr, tk_nf ms, mv, ol) (nI p) res) ∧ (∀ post : SY → Prop, post (nI (tk_rm p q).length, ey, py, cw, fy, tk_nf st', pm', upd sy p res, gy, tk_nf ds', me, wo, fi, qa', oy) → wpY_end post (nI q.length, ey, py, cw, fy, tk_nf st, pm, sy, gy, tk_nf ds, me, wo, fi, qa, oy) (nI p) res) := by
  obtain ⟨⟨Q1, Q2, Q3, Q4⟩, hP, hD, ⟨hM, hh⟩, hC, hZ, h3⟩ := h
  have hq6 : ∀ x, x ∈ q → x < 6 := fun x hx => (Q2 x hx).1
  have hql := tk_len6 6 q hq6 Q1
  obtain ⟨bh', B1, B2⟩ : ∃ bh', tk_ch bh' (tk_rm p q) ∧ ∀ post : SX → Prop, post (tk_oi (tk_rm p q).head?, tk_oi (tk_rm p q).getLast?, nI hd, -1, ex, pr, lv, op, fA, fB, fN, tk_nf st, sp, pa, rg, tk_nf ds, bh', tk_nf ps, tk_nf pk, pw, tk_nf rd, tk_nf wr, tk_nf en, tk_nf sh, lt, fr, tk_nf ms, mv, ol) → wpX_leaveQueue post (tk_oi q.head?, tk_oi q.getLast?, nI hd, -1, ex, pr, lv, op, fA, fB, fN, tk_nf st, sp, pa, rg, tk_nf ds, bh, tk_nf ps, tk_nf pk, pw, tk_nf rd, tk_nf wr, tk_nf en, tk_nf sh, lt, fr, tk_nf ms, mv, ol) (nI p) := tk_xlv hp hq6 Q1 Q3
  obtain ⟨qa', A1, A2⟩ : ∃ qa', tk_qa qa' (tk_rm p q) ∧ ∀ post : SY → Prop, post (nI (tk_rm p q).length, ey, py, cw, fy, tk_nf st, pm, sy, gy, tk_nf ds, me, wo, fi, qa', oy) → wpY_leave post (nI q.length, ey, py, cw, fy, tk_nf st, pm, sy, gy, tk_nf ds, me, wo, fi, qa, oy) (nI p) := tk_ylv hp hq6 (by omega) Q4
  obtain ⟨rd1, wr1, pk1, D1, C1⟩ : ∃ rd' wr' pk' : Nat → Nat, tk_D (tk_nu ds (4 * p + 0) 0) rd' wr' ps pk' pw wo fi ∧ ∀ post : SX → Prop, post (tk_oi (tk_rm p q).head?, tk_oi (tk_rm p q).getLast?, nI hd, -1, ex, pr, lv, op, fA, fB, fN, tk_nf st, sp, pa, rg, tk_nf (tk_nu ds (4 * p + 0) 0), bh', tk_nf ps, tk_nf pk', pw, tk_nf rd', tk_nf wr', tk_nf en, tk_nf sh, lt, fr, tk_nf ms, mv, ol) → wpX_closeEnd post (tk_oi (tk_rm p q).head?, tk_oi (tk_rm p q).getLast?, nI hd, -1, ex, pr, lv, op, fA, fB, fN, tk_nf st, sp, pa, rg, tk_nf ds, bh', tk_nf ps, tk_nf pk, pw, tk_nf rd, tk_nf wr, tk_nf en, tk_nf sh, lt, fr, tk_nf ms, mv, ol) (nI p) (nI 0) := tk_cl hD hp (by omega)
  obtain ⟨rd2, wr2, pk2, D2, C2⟩ : ∃ rd' wr' pk' : Nat → Nat, tk_D (tk_nu (tk_nu ds (4 * p + 0) 0) (4 * p + 1) 0) rd' wr' ps pk' pw wo fi ∧ ∀ post : SX → Prop, post (tk_oi (tk_rm p q).head?, tk_oi (tk_rm p q).getLast?, nI hd, -1, ex, pr, lv, op, fA, fB, fN, tk_nf st, sp, pa, rg, tk_nf (tk_nu (tk_nu ds (4 * p + 0) 0) (4 * p + 1) 0), bh', tk_nf ps, tk_nf pk', pw, tk_nf rd', tk_nf wr', tk_nf en, tk_nf sh, lt, fr, tk_nf ms, mv, ol) → wpX_closeEnd post (tk_oi (tk_rm p q).head?, tk_oi (tk_rm p q).getLast?, nI hd, -1, ex, pr, lv, op, fA, fB, fN, tk_nf st, sp, pa, rg, tk_nf (tk_nu ds (4 * p + 0) 0), bh', tk_nf ps, tk_nf pk1, pw, tk_nf rd1, tk_nf wr1, tk_nf en, tk_nf sh, lt, fr, tk_nf ms, mv, ol) (nI p) (nI 1) := tk_cl D1 hp (by omega)
  obtain ⟨rd3, wr3, pk3, D3, C3⟩ : ∃ rd' wr' pk' : Nat → Nat, tk_D (tk_nu (tk_nu (tk_nu ds (4 * p + 0) 0) (4 * p + 1) 0) (4 * p + 2) 0) rd' wr' ps pk' pw wo fi ∧ ∀ post : SX → Prop, post (tk_oi (tk_rm p q).head?, tk_oi (tk_rm p q).getLast?, nI hd, -1, ex, pr, lv, op, fA, fB, fN, tk_nf st, sp, pa, rg, tk_nf (tk_nu (tk_nu (tk_nu ds (4 * p + 0) 0) (4 * p + 1) 0) (4 * p + 2) 0), bh', tk_nf ps, tk_nf pk', pw, tk_nf rd', tk_nf wr', tk_nf en, tk_nf sh, lt, fr, tk_nf ms, mv, ol) → wpX_closeEnd post (tk_oi (tk_rm p q).head?, tk_oi (tk_rm p q).getLast?, nI hd, -1, ex, pr, lv, op, fA, fB, fN, tk_nf st, sp, pa, rg, tk_nf (tk_nu (tk_nu ds (4 * p + 0) 0) (4 * p + 1) 0), bh', tk_nf ps, tk_nf pk2, pw, tk_nf rd2, tk_nf wr2, tk_nf en, tk_nf sh, lt, fr, tk_nf ms, mv, ol) (nI p) (nI 2) := tk_cl D2 hp (by omega)
  obtain ⟨rd4, wr4, pk4, D4, C4⟩ : ∃ rd' wr' pk' : Nat → Nat, tk_D (tk_z4 ds p) rd' wr' ps pk' pw wo fi ∧ ∀ post : SX → Prop, post (tk_oi (tk_rm p q).head?, tk_oi (tk_rm p q).getLast?, nI hd, -1, ex, pr, lv, op, fA, fB, fN, tk_nf st, sp, pa, rg, tk_nf (tk_z4 ds p), bh', tk_nf ps, tk_nf pk', pw, tk_nf rd', tk_nf wr', tk_nf en, tk_nf sh, lt, fr, tk_nf ms, mv, ol) → wpX_closeEnd post (tk_oi (tk_rm p q).head?, tk_oi (tk_rm p q).getLast?, nI hd, -1, ex, pr, lv, op, fA, fB, fN, tk_nf st, sp, pa, rg, tk_nf (tk_nu (tk_nu (tk_nu ds (4 * p + 0) 0) (4 * p + 1) 0) (4 * p + 2) 0), bh', tk_nf ps, tk_nf pk3, pw, tk_nf rd3, tk_nf wr3, tk_nf en, tk_nf sh, lt, fr, tk_nf ms, mv, ol) (nI p) (nI 3) := tk_cl D3 hp (by omega)
  obtain ⟨sh', ms', M', FP⟩ : ∃ sh' ms' : Nat → Nat, tk_M (tk_z4 en p) sh' ms' ∧ ∀ post : SX → Prop, post (tk_oi (tk_rm p q).head?, tk_oi (tk_rm p q).getLast?, nI hd, -1, ex, pr, lv, op, fA, fB, fN, tk_nf st, sp, pa, rg, tk_nf (tk_z4 ds p), bh', tk_nf ps, tk_nf pk4, pw, tk_nf rd4, tk_nf wr4, tk_nf (tk_z4 en p), tk_nf sh', lt, fr, tk_nf ms', mv, ol) → wpX_freePages post (tk_oi (tk_rm p q).head?, tk_oi (tk_rm p q).getLast?, nI hd, -1, ex, pr, lv, op, fA, fB, fN, tk_nf st, sp, pa, rg, tk_nf (tk_z4 ds p), bh', tk_nf ps, tk_nf pk4, pw, tk_nf rd4, tk_nf wr4, tk_nf en, tk_nf sh, lt, fr, tk_nf ms, mv, ol) (nI p) := tk_fp hM hp
  obtain ⟨st', pa', pm', ⟨F1, F2, F3, F4⟩, X, Y⟩ : ∃ (st' : Nat → Nat) (pa' pm' : Nat → Int32), (tk_P st' pa' pm' ∧ (∀ j, st' j ≤ 3) ∧ (∀ j, j ≠ p → st' j = st j ∨ (st j = 3 ∧ st' j = 0)) ∧ (st' p = 0 ∨ st' p = 3)) ∧ (∀ post : SX → Prop, post (tk_oi (tk_rm p q).head?, tk_oi (tk_rm p q).getLast?, nI hd, -1, ex, pr, lv, op, fA, fB, fN, tk_nf st', upd sp p res, pa', rg, tk_nf (tk_z4 ds p), bh', tk_nf ps, tk_nf pk4, pw, tk_nf rd4, tk_nf wr4, tk_nf (tk_z4 en p), tk_nf sh', lt, fr, tk_nf ms', mv, ol) → wX_end_31 post (nI p) res (tk_oi (tk_rm p q).head?) (tk_oi (tk_rm p q).getLast?) (nI hd) (-1) ex pr lv 7 (nI 0) op fA fB fN (tk_nf st) sp pa rg (tk_nf (tk_z4 ds p)) bh' (tk_nf ps) (tk_nf pk4) pw (tk_nf rd4) (tk_nf wr4) (tk_nf (tk_z4 en p)) (tk_nf sh') lt fr (tk_nf ms') mv ol) ∧ (∀ post : SY → Prop, post (nI (tk_rm p q).length, ey, py, cw, fy, tk_nf st', pm', upd sy p res, gy, tk_nf (tk_z4 ds p), me, wo, fi, qa', oy) → wY_end_33 post (nI p) res (nI (tk_rm p q).length) ey py 7 (nI 0) cw fy (tk_nf st) pm sy gy (tk_nf (tk_z4 ds p)) me wo fi qa' oy) := tk_end31 hp 6 0 rfl st pa pm h3 hP hal
  refine ⟨st', _, pk4, rd4, wr4, _, sh', ms', pa', pm', bh', qa', ⟨⟨⟨tk_rm_d Q1, fun x hx => ?_, B1, A1⟩, F1, D4, ⟨M', hh⟩, fun j hj ha i hi => ?_, fun j hj n1 n2 d hd4 => ?_, F2⟩, F3, F4⟩, fun post h => ?_, fun post h => ?_⟩
  · obtain ⟨x1, x2⟩ := tk_rm_m.mp hx
    obtain ⟨x3, x4⟩ := Q2 x x1
    have := F3 x x2
    omega
  · have hjp : j ≠ p := by
      intro e
      subst e
      omega
    have := F3 j hjp
    rw [tk_ct_c (en := en) (tk_z4o (by omega))]
    exact hC j hj (by omega) i hi
  · by_cases e : j = p
    · subst e
      exact ⟨tk_z4i hd4, tk_z4i hd4⟩
    · have := F3 j e
      rw [tk_z4o (by omega), tk_z4o (by omega)]
      exact hZ j hj (by omega) (by omega) d hd4
  · refine B2 _ (Exists.intro 5 ?_)
    refine br_f (nI_ge (a := 0) (b := 4) (by omega) (by decide)) (C1 _ (nm_r (e' := nI 1) (nI_1 0) ?_))
    refine br_f (nI_ge (a := 1) (b := 4) (by omega) (by decide)) (C2 _ (nm_r (e' := nI 2) (nI_1 1) ?_))
    refine br_f (nI_ge (a := 2) (b := 4) (by omega) (by decide)) (C3 _ (nm_r (e' := nI 3) (nI_1 2) ?_))
    refine br_f (nI_ge (a := 3) (b := 4) (by omega) (by decide)) (C4 _ (nm_r (e' := nI 4) (nI_1 3) ?_))
    exact br_t (nI_le (a := 4) (b := 4) (by omega) (by decide)) (FP _ (Exists.intro 7 (X post h)))
  · refine A2 _ (nm_r (tk_m4 p) (Exists.intro 5 ?_))
    exact tk_yend9 hp (Y post h)
end TKE
end
section
section TKF
variable {q : List Nat} {hd : Nat} {ex : Int64} {pr lv : Int32} {op fA fB fN sp pa rg bh pw lt fr mv ol : Nat → Int32} {st ds ps pk rd wr en sh ms : Nat → Nat}
variable {py : Int32} {ey : Int64} {cw pm me wo fi qa fy sy gy oy : Nat → Int32}
theorem tk_xen {p : Nat} (hp : p < 6) (hq : ∀ x, x ∈ q → x < 6) (d : q.Nodup) (n : p ∉ q) (c : tk_ch bh q) : ∃ bh', tk_ch bh' (q ++ [p]) ∧ ∀ post : SX → Prop, post (tk_oi (q ++ [p]).head?, tk_oi (q ++ [p]).getLast?, nI hd, -1, ex, pr, lv, op, fA, fB, fN, tk_nf st, sp, pa, rg, tk_nf ds, bh', tk_nf ps, tk_nf pk, pw, tk_nf rd, tk_nf wr, tk_nf en, tk_nf sh, lt, fr, tk_nf ms, mv, ol) → wpX_enqueue post (tk_oi q.head?, tk_oi q.getLast?, nI hd, -1, ex, pr, lv, op, fA, fB, fN, tk_nf st, sp, pa, rg, tk_nf ds, bh, tk_nf ps, tk_nf pk, pw, tk_nf rd, tk_nf wr, tk_nf en, tk_nf sh, lt, fr, tk_nf ms, mv, ol) (nI p) := by
  have hvb : vp_nar .byte (nI p).toInt8.toInt32 = nI p := tk_vbb p
  rcases tk_snoc q with rfl | ⟨l, y, rfl⟩
  · exact ⟨upd bh p (-1), ⟨pk_us, trivial⟩, fun post h => tk_st p (-1) hp (br_t tk_n1 h) rfl tk_vm1⟩
  · have hy : y < 6 := hq y (by simp)
    have e1 : (l ++ [y]).getLast? = some y := by simp
    have e2 : (l ++ [y] ++ [p]).getLast? = some p := by simp
    have e3 : (l ++ [y] ++ [p]).head? = (l ++ [y]).head? := by cases l <;> rfl
    refine ⟨_, tk_ch_end d n c, fun post h => ?_⟩
    rw [e2, e3] at h
    rw [e1]
    exact tk_st p (-1) hp (br_f (tk_oi_s hy) (tk_st y (nI p) hy h rfl hvb)) rfl tk_vm1
theorem tk_Q_a {p : Nat} {bh' : Nat → Int32} (hp : p < 6) (hQ : tk_Q q st bh qa) (n : p ∉ q) (c : tk_ch bh' (q ++ [p])) : tk_Q (q ++ [p]) (tk_nu st p 1) bh' (upd qa q.length (nI p)) := by
  obtain ⟨Q1, Q2, Q3, Q4⟩ := hQ
  refine ⟨List.nodup_append.mpr ⟨Q1, by simp, fun a ha b hb e => ?_⟩, fun x hx => ?_, c, tk_qa_a Q4⟩
  · rw [List.mem_singleton] at hb
    exact n (hb ▸ e ▸ ha)
  · by_cases e : x = p
    · subst e; exact ⟨hp, tk_nus⟩
    · rcases List.mem_append.mp hx with w | w
      · rw [tk_nun e]; exact Q2 x w
      · exact absurd (List.mem_singleton.mp w) e
def tk_r1 (g : Nat → Int32) (p c k : Nat) : Nat → Int32 := upd g (4 * c + k) (g (4 * p + k))
def tk_d1 (g : Nat → Nat) (p c k : Nat) : Nat → Nat := tk_nu g (4 * c + k) (g (4 * p + k))
theorem tk_fk1 {p c k : Nat} (hp : p < 6) (hc : c < 6) (hk : k < 4) (hD : tk_D ds rd wr ps pk pw wo fi) (h0 : ds (4 * c + k) = 0) : ∃ rd' wr' : Nat → Nat, tk_D (tk_d1 ds p c k) rd' wr' ps pk pw wo fi ∧ (∀ (post : Int32 → SX → Prop) (n : Nat), wX_fork_41 post (nI p) (nI c) n (nI (k + 1)) (tk_oi q.head?) (tk_oi q.getLast?) (nI hd) (-1) ex pr lv op fA fB fN (tk_nf st) sp pa (tk_r1 rg p c k) (tk_nf (tk_d1 ds p c k)) bh (tk_nf ps) (tk_nf pk) pw (tk_nf rd') (tk_nf wr') (tk_nf en) (tk_nf sh) lt fr (tk_nf ms) mv ol → wX_fork_41 post (nI p) (nI c) (n + 1) (nI k) (tk_oi q.head?) (tk_oi q.getLast?) (nI hd) (-1) ex pr lv op fA fB fN (tk_nf st) sp pa rg (tk_nf ds) bh (tk_nf ps) (tk_nf pk) pw (tk_nf rd) (tk_nf wr) (tk_nf en) (tk_nf sh) lt fr (tk_nf ms) mv ol) := by
  obtain ⟨rd', wr', D', C'⟩ : ∃ rd' wr' : Nat → Nat, tk_D (tk_d1 ds p c k) rd' wr' ps pk pw wo fi ∧ ∀ post : SX → Prop, post (tk_oi q.head?, tk_oi q.getLast?, nI hd, -1, ex, pr, lv, op, fA, fB, fN, tk_nf st, sp, pa, tk_r1 rg p c k, tk_nf (tk_d1 ds p c k), bh, tk_nf ps, tk_nf pk, pw, tk_nf rd', tk_nf wr', tk_nf en, tk_nf sh, lt, fr, tk_nf ms, mv, ol) → wpX_countEnd post (tk_oi q.head?, tk_oi q.getLast?, nI hd, -1, ex, pr, lv, op, fA, fB, fN, tk_nf st, sp, pa, tk_r1 rg p c k, tk_nf (tk_d1 ds p c k), bh, tk_nf ps, tk_nf pk, pw, tk_nf rd, tk_nf wr, tk_nf en, tk_nf sh, lt, fr, tk_nf ms, mv, ol) (nI (ds (4 * p + k))) 1 := tk_put hD (by omega) (by omega) h0
  have h6 := hD.1 (4 * p + k) (by omega)
  have ip : vp_in (4 * nI p + nI k) 24 := pk_in (4 * p + k) 24 (by omega) (tk_i4 p k)
  have ic : vp_in (4 * nI c + nI k) 24 := pk_in (4 * c + k) 24 (by omega) (tk_i4 c k)
  refine ⟨rd', wr', D', fun post n h => br_f (nI_ge (b := 4) (by omega) (by decide)) (And.intro ip (tk_st (4 * c + k) (rg (4 * p + k)) (by omega) (And.intro ip (tk_sn (4 * c + k) (ds (4 * p + k)) (by omega) (And.intro ic ?_) (tk_i4 c k) (tk_vb (ds (4 * p + k)) (tk_rn ds (4 * p + k) (tk_i4 p k))))) (tk_i4 c k) (tk_ri (4 * p + k) (tk_i4 p k))))⟩
  have e : tk_nf (tk_nu ds (4 * c + k) (ds (4 * p + k))) (4 * nI c + nI k).toNatClampNeg = nI (ds (4 * p + k)) := by rw [tk_rn _ (4 * c + k) (tk_i4 c k), tk_nus]
  rw [e]
  exact C' _ (nm_r (nI_1 k) h)
theorem tk_yfk1 {p c k : Nat} (hp : p < 6) (hc : c < 6) (hk : k < 4) {post : Int32 → SY → Prop} {n : Nat} (h : wY_fork_35 post (nI p) (nI c) (nI q.length) ey py n (nI (k + 1)) cw fy (tk_nf st) pm sy (tk_r1 rg p c k) (tk_nf (tk_d1 ds p c k)) me wo fi qa oy) : wY_fork_35 post (nI p) (nI c) (nI q.length) ey py (n + 1) (nI k) cw fy (tk_nf st) pm sy rg (tk_nf ds) me wo fi qa oy := by
  have ip : vp_in (4 * nI p + nI k) 24 := pk_in (4 * p + k) 24 (by omega) (tk_i4 p k)
  exact br_f (nI_ge (b := 4) (by omega) (by decide)) (And.intro ip (tk_st (4 * c + k) (rg (4 * p + k)) (by omega) (And.intro ip (tk_sn (4 * c + k) (ds (4 * p + k)) (by omega) (nm_r (nI_1 k) h) (tk_i4 c k) (tk_rn ds (4 * p + k) (tk_i4 p k)))) (tk_i4 c k) (tk_ri (4 * p + k) (tk_i4 p k))))
/-- pages copied or shared -/
theorem tk_fk2 {p c : Nat} (hp : p < 6) (hc : c < 6) (hpc : p ≠ c) : ∀ (m k : Nat), k + m = 4 → ∀ (hd : Nat) (en sh ms : Nat → Nat) (lt fr mv : Nat → Int32), tk_M en sh ms → hd < 10 → (∀ i, k ≤ i → i < 4 → en (4 * c + i) = 0) → ∃ (hd' : Nat) (en' sh' ms' : Nat → Nat) (lt' fr' mv' : Nat → Int32), (hd' < 10 ∧ tk_M en' sh' ms' ∧ (∀ j, j < 24 → j / 4 ≠ c → (en' j = 0 ↔ en j = 0)) ∧ (∀ j w, j < 24 → w < 8 → tk_ct en' fr' mv' j w = if 4 * c + k ≤ j ∧ j < 4 * c + 4 then tk_ct en fr mv (4 * p + (j - 4 * c)) w else tk_ct en fr mv j w)) ∧ ∀ post : Int32 → SX → Prop, wX_fork_109 post (nI p) (nI c) 1 (nI 4) (tk_oi q.head?) (tk_oi q.getLast?) (nI hd') (-1) ex pr lv op fA fB fN (tk_nf st) sp pa rg (tk_nf ds) bh (tk_nf ps) (tk_nf pk) pw (tk_nf rd) (tk_nf wr) (tk_nf en') (tk_nf sh') lt' fr' (tk_nf ms') mv' ol → wX_fork_109 post (nI p) (nI c) (m + 1) (nI k) (tk_oi q.head?) (tk_oi q.getLast?) (nI hd) (-1) ex pr lv op fA fB fN (tk_nf st) sp pa rg (tk_nf ds) bh (tk_nf ps) (tk_nf pk) pw (tk_nf rd) (tk_nf wr) (tk_nf en) (tk_nf sh) lt fr (tk_nf ms) mv ol := by
  intro m
  induction m with
  | zero =>
    intro k hk hd en sh ms lt fr mv hM hh h0
    obtain rfl : k = 4 := by omega
    refine ⟨hd, en, sh, ms, lt, fr, mv, ⟨hh, hM, fun _ _ _ => Iff.rfl, fun j w _ _ => ?_⟩, fun post h => h⟩
    rw [if_neg (by omega)]
  | succ m ih =>
    intro k hk hd en sh ms lt fr mv hM hh h0
    have K : ∃ (hd1 : Nat) (en1 sh1 ms1 : Nat → Nat) (lt1 fr1 mv1 : Nat → Int32), (hd1 < 10 ∧ tk_M en1 sh1 ms1 ∧ (∀ j, j < 24 → j ≠ 4 * c + k → (en1 j = 0 ↔ en j = 0)) ∧ (∀ j w, j < 24 → w < 8 → tk_ct en1 fr1 mv1 j w = if j = 4 * c + k then tk_ct en fr mv (4 * p + k) w else tk_ct en fr mv j w)) ∧ ∀ (post : Int32 → SX → Prop) (n : Nat), wX_fork_109 post (nI p) (nI c) n (nI (k + 1)) (tk_oi q.head?) (tk_oi q.getLast?) (nI hd1) (-1) ex pr lv op fA fB fN (tk_nf st) sp pa rg (tk_nf ds) bh (tk_nf ps) (tk_nf pk) pw (tk_nf rd) (tk_nf wr) (tk_nf en1) (tk_nf sh1) lt1 fr1 (tk_nf ms1) mv1 ol → wX_fork_109 post (nI p) (nI c) (n + 1) (nI k) (tk_oi q.head?) (tk_oi q.getLast?) (nI hd) (-1) ex pr lv op fA fB fN (tk_nf st) sp pa rg (tk_nf ds) bh (tk_nf ps) (tk_nf pk) pw (tk_nf rd) (tk_nf wr) (tk_nf en) (tk_nf sh) lt fr (tk_nf ms) mv ol := by
      have hg := nI_ge (a := k) (b := 4) (by omega) (by decide)
      by_cases l0 : lv = 0
      · obtain ⟨hd1, en1, sh1, ms1, lt1, fr1, mv1, F, X⟩ : ∃ (hd' : Nat) (en' sh' ms' : Nat → Nat) (lt' fr' mv' : Nat → Int32), (hd' < 10 ∧ tk_M en' sh' ms' ∧ (∀ j, j < 24 → j ≠ 4 * c + k → (en' j = 0 ↔ en j = 0)) ∧ ∀ j w, j < 24 → w < 8 → tk_ct en' fr' mv' j w = if j = 4 * c + k then tk_ct en fr mv (4 * p + k) w else tk_ct en fr mv j w) ∧ ∀ post : SX → Prop, post (tk_oi q.head?, tk_oi q.getLast?, nI hd', -1, ex, pr, lv, op, fA, fB, fN, tk_nf st, sp, pa, rg, tk_nf ds, bh, tk_nf ps, tk_nf pk, pw, tk_nf rd, tk_nf wr, tk_nf en', tk_nf sh', lt', fr', tk_nf ms', mv', ol) → wpX_copyPage post (tk_oi q.head?, tk_oi q.getLast?, nI hd, -1, ex, pr, lv, op, fA, fB, fN, tk_nf st, sp, pa, rg, tk_nf ds, bh, tk_nf ps, tk_nf pk, pw, tk_nf rd, tk_nf wr, tk_nf en, tk_nf sh, lt, fr, tk_nf ms, mv, ol) (nI (4 * p + k)) (nI (4 * c + k)) := tk_cpy hM hh (by omega) (by omega) (by omega) (h0 k (by omega) (by omega)) rfl
        refine ⟨hd1, en1, sh1, ms1, lt1, fr1, mv1, F, fun post n h => br_f hg (br_t l0 ?_)⟩
        rw [tk_i4 p k, tk_i4 c k]
        exact X _ (nm_r (nI_1 k) h)
      · obtain ⟨sh1, ms1, M1, X⟩ : ∃ sh' ms' : Nat → Nat, tk_M (tk_nu en (4 * c + k) (en (4 * p + k))) sh' ms' ∧ ∀ post : SX → Prop, post (tk_oi q.head?, tk_oi q.getLast?, nI hd, -1, ex, pr, lv, op, fA, fB, fN, tk_nf st, sp, pa, rg, tk_nf ds, bh, tk_nf ps, tk_nf pk, pw, tk_nf rd, tk_nf wr, tk_nf (tk_nu en (4 * c + k) (en (4 * p + k))), tk_nf sh', lt, fr, tk_nf ms', mv, ol) → wpX_sharePage post (tk_oi q.head?, tk_oi q.getLast?, nI hd, -1, ex, pr, lv, op, fA, fB, fN, tk_nf st, sp, pa, rg, tk_nf ds, bh, tk_nf ps, tk_nf pk, pw, tk_nf rd, tk_nf wr, tk_nf en, tk_nf sh, lt, fr, tk_nf ms, mv, ol) (nI (4 * p + k)) (nI (4 * c + k)) := tk_shr hM (by omega) (by omega) (by omega) (h0 k (by omega) (by omega))
        refine ⟨hd, _, sh1, ms1, lt, fr, mv, ⟨hh, M1, fun j _ hj => by rw [tk_nun hj], fun j w _ _ => ?_⟩, fun post n h => br_f hg (br_f l0 ?_)⟩
        · by_cases e : j = 4 * c + k
          · rw [if_pos e]
            unfold tk_ct
            rw [e, tk_nus]
          · rw [if_neg e]
            exact tk_ct_c (tk_nun e)
        · rw [tk_i4 p k, tk_i4 c k]
          exact X _ (nm_r (nI_1 k) h)
    obtain ⟨hd1, en1, sh1, ms1, lt1, fr1, mv1, ⟨a1, a2, a3, a4⟩, X1⟩ := K
    obtain ⟨hd2, en2, sh2, ms2, lt2, fr2, mv2, ⟨b1, b2, b3, b4⟩, X2⟩ := ih (k + 1) (by omega) hd1 en1 sh1 ms1 lt1 fr1 mv1 a2 a1 (fun i hi hi4 => (a3 (4 * c + i) (by omega) (by omega)).mpr (h0 i (by omega) hi4))
    refine ⟨hd2, en2, sh2, ms2, lt2, fr2, mv2, ⟨b1, b2, fun j hj hjc => (b3 j hj hjc).trans (a3 j hj (by omega)), fun j w hj hw => ?_⟩, fun post h => X1 post (m + 1) (X2 post h)⟩
    rw [b4 j w hj hw]
    by_cases e : 4 * c + (k + 1) ≤ j ∧ j < 4 * c + 4
    · rw [if_pos e, if_pos (by omega), a4 _ w (by omega) hw, if_neg (by omega)]
    · rw [if_neg e, a4 j w hj hw]
      by_cases e2 : j = 4 * c + k
      · rw [if_pos e2, if_pos (by omega)]
        exact congrArg (fun x => tk_ct en fr mv x w) (by omega)
      · rw [if_neg e2, if_neg (by omega)]
theorem tk_yfk88 {p c : Nat} (hp : p < 6) (hc : c < 6) (hpc : p ≠ c) {post : Int32 → SY → Prop} (h : wpY_join (fun u => post (nI c) u) (nI q.length, ey, py, cw, fy, tk_nf st, pm, sy, rg, tk_nf ds, tk_cp me me (32 * c) (32 * p) 32, wo, fi, qa, oy) (nI c)) : ∀ d k, k + d = 32 → wY_fork_88 post (nI p) (nI c) (nI q.length) ey py (d + 1) (nI k) cw fy (tk_nf st) pm sy rg (tk_nf ds) (tk_cp me me (32 * c) (32 * p) k) wo fi qa oy := by
  intro d
  induction d with
  | zero =>
    intro k hk
    obtain rfl : k = 32 := by omega
    exact br_t (nI_le (a := 32) (b := 32) (by omega) (by decide)) h
  | succ d ih =>
    intro k hk
    refine br_f (nI_ge (b := 32) (by omega) (by decide)) (And.intro (pk_in (32 * p + k) 192 (by omega) (tk_i32 p k)) (tk_st (32 * c + k) (me (32 * p + k)) (by omega) (nm_r (nI_1 k) ?_) (tk_i32 c k) ((tk_ri (32 * p + k) (tk_i32 p k)).trans (tk_cpo (by omega)))))
    rw [tk_cps]
    exact ih (k + 1) (by omega)
theorem tk_d1o {g : Nat → Nat} {p c k j : Nat} (h : j ≠ 4 * c + k) : tk_d1 g p c k j = g j := tk_nun h
/-- fork, for both -/
theorem tk_fork {p : Nat} (hp : p < 6) (hal : st p = 1) (hpq : p ∉ q) (h : tk_J q hd st ds ps pk rd wr en sh ms pa pm bh qa pw wo fi fr mv me) : ((∀ post : Int32 → SX → Prop, post (-2) (tk_oi q.head?, tk_oi q.getLast?, nI hd, -1, ex, pr, lv, op, fA, fB, fN, tk_nf st, sp, pa, rg, tk_nf ds, bh, tk_nf ps, tk_nf pk, pw, tk_nf rd, tk_nf wr, tk_nf en, tk_nf sh, lt, fr, tk_nf ms, mv, ol) → wpX_fork post (tk_oi q.head?, tk_oi q.getLast?, nI hd, -1, ex, pr, lv, op, fA, fB, fN, tk_nf st, sp, pa, rg, tk_nf ds, bh, tk_nf ps, tk_nf pk, pw, tk_nf rd, tk_nf wr, tk_nf en, tk_nf sh, lt, fr, tk_nf ms, mv, ol) (nI p)) ∧ (∀ post : Int32 → SY → Prop, post (-2) (nI q.length, ey, py, cw, fy, tk_nf st, pm, sy, rg, tk_nf ds, me, wo, fi, qa, oy) → wpY_fork post (nI q.length, ey, py, cw, fy, tk_nf st, pm, sy, rg, tk_nf ds, me, wo, fi, qa, oy) (nI p))) ∨ ∃ (c hd' : Nat) (ds' rd' wr' en' sh' ms' : Nat → Nat) (rg' bh' lt' fr' mv' me' : Nat → Int32), (c < 6 ∧ c ≠ p ∧ st c = 0 ∧ p ∉ q ++ [c] ∧ tk_J (q ++ [c]) hd' (tk_nu st c 1) ds' ps pk rd' wr' en' sh' ms' (upd pa c (nI p)) (upd pm c (nI p)) bh' (upd qa q.length (nI c)) pw wo fi fr' mv' me') ∧ (∀ post : Int32 → SX → Prop, post (nI c) (tk_oi (q ++ [c]).head?, tk_oi (q ++ [c]).getLast?, nI hd', -1, ex, pr, lv, op, fA, fB, fN, tk_nf (tk_nu st c 1), upd sp c (sp p), upd pa c (nI p), rg', tk_nf ds', bh', tk_nf ps, tk_nf pk, pw, tk_nf rd', tk_nf wr', tk_nf en', tk_nf sh', lt', fr', tk_nf ms', mv', ol) → wpX_fork post (tk_oi q.head?, tk_oi q.getLast?, nI hd, -1, ex, pr, lv, op, fA, fB, fN, tk_nf st, sp, pa, rg, tk_nf ds, bh, tk_nf ps, tk_nf pk, pw, tk_nf rd, tk_nf wr, tk_nf en, tk_nf sh, lt, fr, tk_nf ms, mv, ol) (nI p)) ∧ (∀ post : Int32 → SY → Prop, post (nI c) (nI (q ++ [c]).length, ey, py, cw, fy, tk_nf (tk_nu st c 1), upd pm c (nI p), upd sy c (sy p + 1), rg', tk_nf ds', me', wo, fi, upd qa q.length (nI c), oy) → wpY_fork post (nI q.length, ey, py, cw, fy, tk_nf st, pm, sy, rg, tk_nf ds, me, wo, fi, qa, oy) (nI p)) := by
  obtain ⟨hQ, hP, hD, ⟨hM, hh⟩, hC, hZ, h3⟩ := h
  have hq6 : ∀ x, x ∈ q → x < 6 := fun x hx => (hQ.2.1 x hx).1
  have hql := tk_len6 6 q hq6 hQ.1
  obtain ⟨r, e1, X0, Y0⟩ : ∃ r : Int32, (r = -1 ∨ ∃ p, p < 6 ∧ r = nI p ∧ st p = 0) ∧ (∀ post : Int32 → Prop, post r → wpX_freeProcess post (tk_oi q.head?, tk_oi q.getLast?, nI hd, -1, ex, pr, lv, op, fA, fB, fN, tk_nf st, sp, pa, rg, tk_nf ds, bh, tk_nf ps, tk_nf pk, pw, tk_nf rd, tk_nf wr, tk_nf en, tk_nf sh, lt, fr, tk_nf ms, mv, ol)) ∧ (∀ post : Int32 → Prop, post r → wpY_smallestFree post (nI q.length, ey, py, cw, fy, tk_nf st, pm, sy, rg, tk_nf ds, me, wo, fi, qa, oy)) := tk_free h3
  rcases e1 with e1 | ⟨c, c1, c2, c3⟩
  · subst e1
    exact Or.inl ⟨fun post h => X0 _ (br_f tk_nn1 h), fun post h => Y0 _ (br_f tk_nn1 h)⟩
  · subst c2
    right
    have hcp : c ≠ p := by
      intro e
      subst e
      omega
    have hcq : c ∉ q := fun z => by
      have := (hQ.2.1 c z).2
      omega
    have hz := hZ c c1 (by omega) (by omega)
    have hc0 : (0 : Int32) ≤ nI c := nI_pos' (by omega)
    obtain ⟨rd1, wr1, D1, A1⟩ : ∃ rd' wr' : Nat → Nat, tk_D (tk_d1 ds p c 0) rd' wr' ps pk pw wo fi ∧ (∀ (post : Int32 → SX → Prop) (n : Nat), wX_fork_41 post (nI p) (nI c) n (nI 1) (tk_oi q.head?) (tk_oi q.getLast?) (nI hd) (-1) ex pr lv op fA fB fN (tk_nf (tk_nu st c 1)) (upd sp c (sp p)) (upd pa c (nI p)) (tk_r1 rg p c 0) (tk_nf (tk_d1 ds p c 0)) bh (tk_nf ps) (tk_nf pk) pw (tk_nf rd') (tk_nf wr') (tk_nf en) (tk_nf sh) lt fr (tk_nf ms) mv ol → wX_fork_41 post (nI p) (nI c) (n + 1) (nI 0) (tk_oi q.head?) (tk_oi q.getLast?) (nI hd) (-1) ex pr lv op fA fB fN (tk_nf (tk_nu st c 1)) (upd sp c (sp p)) (upd pa c (nI p)) rg (tk_nf ds) bh (tk_nf ps) (tk_nf pk) pw (tk_nf rd) (tk_nf wr) (tk_nf en) (tk_nf sh) lt fr (tk_nf ms) mv ol) := tk_fk1 hp c1 (by omega) hD (hz 0 (by omega)).1
    obtain ⟨rd2, wr2, D2, A2⟩ : ∃ rd' wr' : Nat → Nat, tk_D (tk_d1 (tk_d1 ds p c 0) p c 1) rd' wr' ps pk pw wo fi ∧ (∀ (post : Int32 → SX → Prop) (n : Nat), wX_fork_41 post (nI p) (nI c) n (nI 2) (tk_oi q.head?) (tk_oi q.getLast?) (nI hd) (-1) ex pr lv op fA fB fN (tk_nf (tk_nu st c 1)) (upd sp c (sp p)) (upd pa c (nI p)) (tk_r1 (tk_r1 rg p c 0) p c 1) (tk_nf (tk_d1 (tk_d1 ds p c 0) p c 1)) bh (tk_nf ps) (tk_nf pk) pw (tk_nf rd') (tk_nf wr') (tk_nf en) (tk_nf sh) lt fr (tk_nf ms) mv ol → wX_fork_41 post (nI p) (nI c) (n + 1) (nI 1) (tk_oi q.head?) (tk_oi q.getLast?) (nI hd) (-1) ex pr lv op fA fB fN (tk_nf (tk_nu st c 1)) (upd sp c (sp p)) (upd pa c (nI p)) (tk_r1 rg p c 0) (tk_nf (tk_d1 ds p c 0)) bh (tk_nf ps) (tk_nf pk) pw (tk_nf rd1) (tk_nf wr1) (tk_nf en) (tk_nf sh) lt fr (tk_nf ms) mv ol) := tk_fk1 hp c1 (by omega) D1 (by rw [tk_d1o (by omega)]; exact (hz 1 (by omega)).1)
    obtain ⟨rd3, wr3, D3, A3⟩ : ∃ rd' wr' : Nat → Nat, tk_D (tk_d1 (tk_d1 (tk_d1 ds p c 0) p c 1) p c 2) rd' wr' ps pk pw wo fi ∧ (∀ (post : Int32 → SX → Prop) (n : Nat), wX_fork_41 post (nI p) (nI c) n (nI 3) (tk_oi q.head?) (tk_oi q.getLast?) (nI hd) (-1) ex pr lv op fA fB fN (tk_nf (tk_nu st c 1)) (upd sp c (sp p)) (upd pa c (nI p)) (tk_r1 (tk_r1 (tk_r1 rg p c 0) p c 1) p c 2) (tk_nf (tk_d1 (tk_d1 (tk_d1 ds p c 0) p c 1) p c 2)) bh (tk_nf ps) (tk_nf pk) pw (tk_nf rd') (tk_nf wr') (tk_nf en) (tk_nf sh) lt fr (tk_nf ms) mv ol → wX_fork_41 post (nI p) (nI c) (n + 1) (nI 2) (tk_oi q.head?) (tk_oi q.getLast?) (nI hd) (-1) ex pr lv op fA fB fN (tk_nf (tk_nu st c 1)) (upd sp c (sp p)) (upd pa c (nI p)) (tk_r1 (tk_r1 rg p c 0) p c 1) (tk_nf (tk_d1 (tk_d1 ds p c 0) p c 1)) bh (tk_nf ps) (tk_nf pk) pw (tk_nf rd2) (tk_nf wr2) (tk_nf en) (tk_nf sh) lt fr (tk_nf ms) mv ol) := tk_fk1 hp c1 (by omega) D2 (by rw [tk_d1o (by omega), tk_d1o (by omega)]; exact (hz 2 (by omega)).1)
    obtain ⟨rd4, wr4, D4, A4⟩ : ∃ rd' wr' : Nat → Nat, tk_D (tk_d1 (tk_d1 (tk_d1 (tk_d1 ds p c 0) p c 1) p c 2) p c 3) rd' wr' ps pk pw wo fi ∧ (∀ (post : Int32 → SX → Prop) (n : Nat), wX_fork_41 post (nI p) (nI c) n (nI 4) (tk_oi q.head?) (tk_oi q.getLast?) (nI hd) (-1) ex pr lv op fA fB fN (tk_nf (tk_nu st c 1)) (upd sp c (sp p)) (upd pa c (nI p)) (tk_r1 (tk_r1 (tk_r1 (tk_r1 rg p c 0) p c 1) p c 2) p c 3) (tk_nf (tk_d1 (tk_d1 (tk_d1 (tk_d1 ds p c 0) p c 1) p c 2) p c 3)) bh (tk_nf ps) (tk_nf pk) pw (tk_nf rd') (tk_nf wr') (tk_nf en) (tk_nf sh) lt fr (tk_nf ms) mv ol → wX_fork_41 post (nI p) (nI c) (n + 1) (nI 3) (tk_oi q.head?) (tk_oi q.getLast?) (nI hd) (-1) ex pr lv op fA fB fN (tk_nf (tk_nu st c 1)) (upd sp c (sp p)) (upd pa c (nI p)) (tk_r1 (tk_r1 (tk_r1 rg p c 0) p c 1) p c 2) (tk_nf (tk_d1 (tk_d1 (tk_d1 ds p c 0) p c 1) p c 2)) bh (tk_nf ps) (tk_nf pk) pw (tk_nf rd3) (tk_nf wr3) (tk_nf en) (tk_nf sh) lt fr (tk_nf ms) mv ol) := tk_fk1 hp c1 (by omega) D3 (by rw [tk_d1o (by omega), tk_d1o (by omega), tk_d1o (by omega)]; exact (hz 3 (by omega)).1)
    have hds : ∀ j, j / 4 ≠ c → tk_d1 (tk_d1 (tk_d1 (tk_d1 ds p c 0) p c 1) p c 2) p c 3 j = ds j := fun j hj => by rw [tk_d1o (by omega), tk_d1o (by omega), tk_d1o (by omega), tk_d1o (by omega)]
    have YK : ∀ (post : Int32 → SY → Prop) (n : Nat), wY_fork_88 post (nI p) (nI c) (nI q.length) ey py n 0 cw fy (tk_nf st) (upd pm c (nI p)) (upd sy c (sy p + 1)) (tk_r1 (tk_r1 (tk_r1 (tk_r1 rg p c 0) p c 1) p c 2) p c 3) (tk_nf (tk_d1 (tk_d1 (tk_d1 (tk_d1 ds p c 0) p c 1) p c 2) p c 3)) me wo fi qa oy → wY_fork_35 post (nI p) (nI c) (nI q.length) ey py 5 (nI 0) cw fy (tk_nf st) (upd pm c (nI p)) (upd sy c (sy p + 1)) rg (tk_nf ds) me wo fi qa oy := fun post n h => tk_yfk1 hp c1 (by omega) (tk_yfk1 hp c1 (by omega) (tk_yfk1 hp c1 (by omega) (tk_yfk1 hp c1 (by omega) (br_t (nI_le (a := 4) (b := 4) (by omega) (by decide)) (Exists.intro n h)))))
    generalize tk_r1 (tk_r1 (tk_r1 (tk_r1 rg p c 0) p c 1) p c 2) p c 3 = rg4 at *
    generalize tk_d1 (tk_d1 (tk_d1 (tk_d1 ds p c 0) p c 1) p c 2) p c 3 = ds4 at *
    obtain ⟨hd', en', sh', ms', lt', fr', mv', ⟨b1, b2, b3, b4⟩, X2⟩ : ∃ (hd' : Nat) (en' sh' ms' : Nat → Nat) (lt' fr' mv' : Nat → Int32), (hd' < 10 ∧ tk_M en' sh' ms' ∧ (∀ j, j < 24 → j / 4 ≠ c → (en' j = 0 ↔ en j = 0)) ∧ (∀ j w, j < 24 → w < 8 → tk_ct en' fr' mv' j w = if 4 * c + 0 ≤ j ∧ j < 4 * c + 4 then tk_ct en fr mv (4 * p + (j - 4 * c)) w else tk_ct en fr mv j w)) ∧ ∀ post : Int32 → SX → Prop, wX_fork_109 post (nI p) (nI c) 1 (nI 4) (tk_oi q.head?) (tk_oi q.getLast?) (nI hd') (-1) ex pr lv op fA fB fN (tk_nf (tk_nu st c 1)) (upd sp c (sp p)) (upd pa c (nI p)) rg4 (tk_nf ds4) bh (tk_nf ps) (tk_nf pk) pw (tk_nf rd4) (tk_nf wr4) (tk_nf en') (tk_nf sh') lt' fr' (tk_nf ms') mv' ol → wX_fork_109 post (nI p) (nI c) 5 (nI 0) (tk_oi q.head?) (tk_oi q.getLast?) (nI hd) (-1) ex pr lv op fA fB fN (tk_nf (tk_nu st c 1)) (upd sp c (sp p)) (upd pa c (nI p)) rg4 (tk_nf ds4) bh (tk_nf ps) (tk_nf pk) pw (tk_nf rd4) (tk_nf wr4) (tk_nf en) (tk_nf sh) lt fr (tk_nf ms) mv ol := tk_fk2 hp c1 (fun e => hcp e.symm) 4 0 rfl hd en sh ms lt fr mv hM hh (fun i _ hi => (hz i hi).2)
    obtain ⟨bh', c4, X3⟩ : ∃ bh', tk_ch bh' (q ++ [c]) ∧ ∀ post : SX → Prop, post (tk_oi (q ++ [c]).head?, tk_oi (q ++ [c]).getLast?, nI hd', -1, ex, pr, lv, op, fA, fB, fN, tk_nf (tk_nu st c 1), upd sp c (sp p), upd pa c (nI p), rg4, tk_nf ds4, bh', tk_nf ps, tk_nf pk, pw, tk_nf rd4, tk_nf wr4, tk_nf en', tk_nf sh', lt', fr', tk_nf ms', mv', ol) → wpX_enqueue post (tk_oi q.head?, tk_oi q.getLast?, nI hd', -1, ex, pr, lv, op, fA, fB, fN, tk_nf (tk_nu st c 1), upd sp c (sp p), upd pa c (nI p), rg4, tk_nf ds4, bh, tk_nf ps, tk_nf pk, pw, tk_nf rd4, tk_nf wr4, tk_nf en', tk_nf sh', lt', fr', tk_nf ms', mv', ol) (nI c) := tk_xen c1 hq6 hQ.1 hcq hQ.2.2.1
    refine ⟨c, hd', ds4, rd4, wr4, en', sh', ms', rg4, bh', lt', fr', mv', tk_cp me me (32 * c) (32 * p) 32, ⟨c1, hcp, c3, ?_, tk_Q_a c1 hQ hcq c4, ?_, D4, ⟨b2, b1⟩, ?_, ?_, ?_⟩, fun post h => ?_, fun post h => ?_⟩
    · intro z
      rcases List.mem_append.mp z with z | z
      · exact hpq z
      · exact hcp (List.mem_singleton.mp z).symm
    · intro j hj hn
      by_cases e : j = c
      · subst e
        rw [pk_us, pk_us]
        exact ⟨rfl, Or.inr ⟨p, hp, fun e => hcp e.symm, rfl⟩⟩
      · rw [tk_nun e] at hn
        rw [pk_un e, pk_un e]
        exact hP j hj hn
    · intro j hj ha i hi
      rw [b4 _ _ (by omega) (by omega)]
      by_cases e : j = c
      · subst e
        rw [tk_cpi hi, if_pos (by omega), hC p hp (Or.inl hal) i hi]
        exact congrArg (fun x => tk_ct en fr mv x (i % 8)) (by omega)
      · rw [tk_nun e] at ha
        rw [tk_cpo (by omega), if_neg (by omega)]
        exact hC j hj ha i hi
    · intro j hj n1 n2 d hd4
      by_cases e : j = c
      · subst e
        exact absurd tk_nus n1
      · rw [tk_nun e] at n1 n2
        obtain ⟨z1, z2⟩ := hZ j hj n1 n2 d hd4
        exact ⟨by rw [hds _ (by omega)]; exact z1, (b3 _ (by omega) (by omega)).mpr z2⟩
    · intro j
      by_cases e : j = c
      · subst e; rw [tk_nus]; omega
      · rw [tk_nun e]; exact h3 j
    · refine X0 _ (br_t hc0 (tk_sn c 1 c1 (tk_st c (nI p) c1 (And.intro (pk_in p 6 hp) (tk_st c (sp p) c1 (Exists.intro 5 ?_) rfl (tk_ri p))) rfl (tk_vbb p)) rfl (tk_vb 1)))
      refine A1 _ _ (A2 _ _ (A3 _ _ (A4 _ _ (br_t (nI_le (a := 4) (b := 4) (by omega) (by decide)) (Exists.intro 5 (X2 _ (br_t (nI_le (a := 4) (b := 4) (by omega) (by decide)) ?_)))))))
      exact X3 _ h
    · refine Y0 _ (br_t hc0 (tk_st c (nI p) c1 (And.intro (pk_in p 6 hp) (tk_st c (sy p + 1) c1 (Exists.intro 5 (YK _ 33 ?_)) rfl (congrArg (· + 1) (tk_ri p))))))
      have k := tk_yfk88 (post := post) hp c1 (fun e => hcp e.symm) (tk_yjoin c1 (by omega) h) 32 0 rfl
      rw [tk_cp0] at k
      exact k
end TKF
end
section
section TKV
variable {q : List Nat} {hd pr : Nat} {ex : Int64} {lv : Int32} {fN sp pa rg bh pw lt fr mv ol : Nat → Int32} {cw st ds ps pk rd wr en sh ms : Nat → Nat}
variable {pm me wo fi qa : Nat → Int32}
def tk_op (cw : Nat → Nat) : Nat → Nat := fun j => cw j % 32
def tk_fA (cw : Nat → Nat) : Nat → Nat := fun j => cw j / 32 % 4
def tk_fB (cw : Nat → Nat) : Nat → Nat := fun j => cw j / 128
theorem tk_a31 {w : Nat} (h : w < 512) : nI w &&& 31 = nI (w % 32) := pk_andN (by omega) 5 (by decide)
theorem tk_a3 {w : Nat} (h : w < 512) : nI w &&& 3 = nI (w % 4) := pk_andN (by omega) 2 (by decide)
theorem tk_s5 {w : Nat} (h : w < 512) : nI w >>> ((5 : Int32) &&& 31) = nI (w / 32) := pk_shrN (by omega) _ 5 (by decide)
theorem tk_s7 {w : Nat} (h : w < 512) : nI w >>> ((7 : Int32) &&& 31) = nI (w / 128) := pk_shrN (by omega) _ 7 (by decide)
theorem tk_neL {a : Nat} {x : Int32} (b : Nat) (h : a ≠ b) (hx : x = nI b := by rfl) (ha : a < 2 ^ 31 := by omega) (hb : b < 2 ^ 31 := by omega) : ¬ nI a = x := by
  subst hx
  exact fun z => h (tk_inj z ha hb)
/-- X: the opening of wouldWait -/
theorem tk_xw {post : Int32 → Prop} {p s o : Nat} (hp : p < 6) (hs : s < 64) (hsp : sp p = nI s) (ho : cw s % 32 = o) (hcw : cw s < 512) (h14 : o = 14 → wpX_hasChild (fun r => (r = 0 → post 0) ∧ (¬ r = 0 → wpX_endedChild (fun r => (0 ≤ r → post 0) ∧ (¬ 0 ≤ r → post 1)) (tk_oi q.head?, tk_oi q.getLast?, nI hd, -1, ex, nI pr, lv, tk_nf (tk_op cw), tk_nf (tk_fA cw), tk_nf (tk_fB cw), fN, tk_nf st, sp, pa, rg, tk_nf ds, bh, tk_nf ps, tk_nf pk, pw, tk_nf rd, tk_nf wr, tk_nf en, tk_nf sh, lt, fr, tk_nf ms, mv, ol) (nI p))) (tk_oi q.head?, tk_oi q.getLast?, nI hd, -1, ex, nI pr, lv, tk_nf (tk_op cw), tk_nf (tk_fA cw), tk_nf (tk_fB cw), fN, tk_nf st, sp, pa, rg, tk_nf ds, bh, tk_nf ps, tk_nf pk, pw, tk_nf rd, tk_nf wr, tk_nf en, tk_nf sh, lt, fr, tk_nf ms, mv, ol) (nI p)) (h16 : o = 16 ∨ o = 17 → wX_wouldWait_56 post (nI p) (nI s) (nI o) (tk_oi q.head?) (tk_oi q.getLast?) (nI hd) (-1) ex (nI pr) lv (tk_nf (tk_op cw)) (tk_nf (tk_fA cw)) (tk_nf (tk_fB cw)) fN (tk_nf st) sp pa rg (tk_nf ds) bh (tk_nf ps) (tk_nf pk) pw (tk_nf rd) (tk_nf wr) (tk_nf en) (tk_nf sh) lt fr (tk_nf ms) mv ol) (hx : o ≠ 14 → o ≠ 16 → o ≠ 17 → post 0) : wpX_wouldWait post (tk_oi q.head?, tk_oi q.getLast?, nI hd, -1, ex, nI pr, lv, tk_nf (tk_op cw), tk_nf (tk_fA cw), tk_nf (tk_fB cw), fN, tk_nf st, sp, pa, rg, tk_nf ds, bh, tk_nf ps, tk_nf pk, pw, tk_nf rd, tk_nf wr, tk_nf en, tk_nf sh, lt, fr, tk_nf ms, mv, ol) (nI p) := by
  have ho' : tk_nf (tk_op cw) s = nI o := congrArg nI ho
  have : o < 32 := by omega
  refine tk_ld p (nI s) hp (tk_ld s (nI o) hs ?_ rfl ho') rfl hsp
  refine pk_eq o 14 (fun e => h14 e) (fun n14 => pk_eq o 16 (fun e => h16 (Or.inl e)) (fun n16 => pk_eq o 17 (fun e => h16 (Or.inr e)) (fun n17 => hx n14 n16 n17)))
theorem tk_xw56 {post : Int32 → Prop} {p s o : Nat} (hp : p < 6) (hs : s < 64) (hcw : cw s < 512) (hD : tk_D ds rd wr ps pk pw wo fi) (ho : o = 16 ∨ o = 17) (h0 : tk_eo ds p (rg (4 * p + cw s / 128)) = 0 → post 0) (h1 : ∀ e, tk_eo ds p (rg (4 * p + cw s / 128)) = e → e ≠ 0 → (o = 16 ↔ e % 2 ≠ 1) → post 0) (h2 : ∀ e k, tk_eo ds p (rg (4 * p + cw s / 128)) = e → e ≠ 0 → k < 3 → k = (e - 1) / 2 → (o = 16 ↔ e % 2 = 1) → post (if o = 16 then (if pk k = 0 then (if wr k = 0 then 0 else 1) else 0) else (if pk k = 4 then (if rd k = 0 then 0 else 1) else 0))) (hpk : ∀ k, k < 3 → 0 < rd k + wr k → pk k ≤ 4) (hth : ∀ e, tk_eo ds p (rg (4 * p + cw s / 128)) = e → e ≠ 0 → 0 < rd ((e - 1) / 2) + wr ((e - 1) / 2)) : wX_wouldWait_56 post (nI p) (nI s) (nI o) (tk_oi q.head?) (tk_oi q.getLast?) (nI hd) (-1) ex (nI pr) lv (tk_nf (tk_op cw)) (tk_nf (tk_fA cw)) (tk_nf (tk_fB cw)) fN (tk_nf st) sp pa rg (tk_nf ds) bh (tk_nf ps) (tk_nf pk) pw (tk_nf rd) (tk_nf wr) (tk_nf en) (tk_nf sh) lt fr (tk_nf ms) mv ol := by
  have hb : cw s / 128 < 4 := by omega
  have hrb : tk_nf (tk_fB cw) (nI s).toNatClampNeg = nI (cw s / 128) := tk_rn (tk_fB cw) s
  have i4 : 4 * nI p + tk_nf (tk_fB cw) (nI s).toNatClampNeg = nI (4 * p + cw s / 128) := by rw [hrb, tk_i4]
  have h6 := tk_eo_le (ds := ds) hD.1 hp (rg (4 * p + cw s / 128))
  refine And.intro (pk_in s 64 hs) (And.intro (pk_in (4 * p + cw s / 128) 24 (by omega) i4) ?_)
  rw [tk_ri (a := rg) (4 * p + cw s / 128) i4]
  refine tk_xea hp ?_
  generalize tk_eo ds p (rg (4 * p + cw s / 128)) = e at *
  refine pk_eq e 0 (fun z => h0 z) (fun z => tk_xir (by omega) ?_)
  have hk : (e - 1) / 2 < 3 := by omega
  have ht := hth e rfl z
  have hpk4 := hpk _ hk ht
  have hb2 := tk_Drd hD hk
  have X100 : ∀ z0 : Nat, (z0 = e % 2 → (o = 16 ↔ e % 2 = 1)) → (z0 ≠ e % 2 → (o = 16 ↔ e % 2 ≠ 1)) → z0 ≤ 1 → wX_wouldWait_100 post (nI o) (nI e) (nI z0) (nI (e % 2)) (tk_oi q.head?) (tk_oi q.getLast?) (nI hd) (-1) ex (nI pr) lv (tk_nf (tk_op cw)) (tk_nf (tk_fA cw)) (tk_nf (tk_fB cw)) fN (tk_nf st) sp pa rg (tk_nf ds) bh (tk_nf ps) (tk_nf pk) pw (tk_nf rd) (tk_nf wr) (tk_nf en) (tk_nf sh) lt fr (tk_nf ms) mv ol := by
    intro z0 k1 k2 hz0
    refine pk_eq (e % 2) z0 (fun y => tk_xpo (by omega) (by omega) ?_) (fun y => h1 e rfl z (k2 (fun w => y w.symm)))
    have hh := h2 e _ rfl z hk rfl (k1 y.symm)
    generalize (e - 1) / 2 = k at *
    refine pk_eq o 16 (fun e16 => And.intro (pk_in k 3 hk) ?_) (fun e16 => And.intro (pk_in k 3 hk) ?_)
    · rw [if_pos e16] at hh
      refine pk_eq (pk k) 0 (fun y0 => And.intro (pk_in k 3 hk) ?_) (fun y0 => ?_) (tk_rn pk k)
      · rw [if_pos y0] at hh
        refine pk_le (wr k) 0 (fun y1 => ?_) (fun y1 => ?_) (tk_rn wr k)
        · rw [if_pos (by omega)] at hh; exact hh
        · rw [if_neg (by omega)] at hh; exact hh
      · rw [if_neg y0] at hh; exact hh
    · rw [if_neg e16] at hh
      refine pk_eq (pk k) 4 (fun y0 => And.intro (pk_in k 3 hk) ?_) (fun y0 => ?_) (tk_rn pk k)
      · rw [if_pos y0] at hh
        refine pk_le (rd k) 0 (fun y1 => ?_) (fun y1 => ?_) (tk_rn rd k)
        · rw [if_pos (by omega)] at hh; exact hh
        · rw [if_neg (by omega)] at hh; exact hh
      · rw [if_neg y0] at hh; exact hh
  exact pk_eq o 16 (fun e16 => X100 1 (fun y => ⟨fun _ => y.symm, fun _ => e16⟩) (fun y => ⟨fun _ => fun w => y w.symm, fun _ => e16⟩) (by omega)) (fun e16 => X100 0 (fun y => ⟨fun w => absurd w e16, fun w => by omega⟩) (fun y => ⟨fun w => absurd w e16, fun w => by omega⟩) (by omega))
/-- Y: the opening of waits -/
theorem tk_yw {post : Int32 → Prop} {p s o : Nat} (hp : p < 6) (hs : s < 64) (hsp : sp p = nI s) (ho : cw s % 32 = o) (hcw : cw s < 512) (hD : tk_D ds rd wr ps pk pw wo fi) (h14 : o = 14 → wpY_endedChild (fun r => (r = -1 → post 1) ∧ (¬ r = -1 → post 0)) (nI q.length, ex, nI pr, tk_nf cw, fN, tk_nf st, pm, sp, rg, tk_nf ds, me, wo, fi, qa, ol) (nI p)) (h16 : ∀ e, o = 16 → tk_eo ds p (rg (4 * p + cw s / 128)) = e → (e % 2 ≠ 1 → post 0) ∧ (e % 2 = 1 → (e - 1) / 2 < 3 ∧ fi ((e - 1) / 2) = nI (pk ((e - 1) / 2)) ∧ pk ((e - 1) / 2) ≤ 4 ∧ post (if pk ((e - 1) / 2) = 0 then (if tk_cn ds (e + 1) 24 = 0 then 0 else 1) else 0))) (h17 : ∀ e, o = 17 → tk_eo ds p (rg (4 * p + cw s / 128)) = e → (e = 0 ∨ e % 2 ≠ 0 → post 0) ∧ (e ≠ 0 → e % 2 = 0 → (e - 1) / 2 < 3 ∧ fi ((e - 1) / 2) = nI (pk ((e - 1) / 2)) ∧ pk ((e - 1) / 2) ≤ 4 ∧ post (if pk ((e - 1) / 2) = 4 then (if tk_cn ds (e - 1) 24 = 0 then 0 else 1) else 0))) (hx : o ≠ 14 → o ≠ 16 → o ≠ 17 → post 0) : wpY_waits post (nI q.length, ex, nI pr, tk_nf cw, fN, tk_nf st, pm, sp, rg, tk_nf ds, me, wo, fi, qa, ol) (nI p) := by
  have hb : cw s / 128 < 4 := by omega
  have hsr : sp (nI p).toNatClampNeg = nI s := (tk_ri p).trans hsp
  have h32 : o < 32 := by omega
  refine And.intro (pk_in p 6 hp) (tk_yin ?_)
  have h63 : ¬ (63 : Int32) < nI s := nI_nlt (a := 63) (b := s) (by omega) (by omega)
  rw [hsr, if_neg (nI_pos (by omega)), if_neg h63]
  refine br_f (by decide) (And.intro (pk_in p 6 hp) (And.intro (pk_in s 64 hs) (nm_r (e' := nI o) ?_ (And.intro (pk_in p 6 hp) (And.intro (pk_in s 64 hs) (nm_r (e' := nI (cw s / 128)) ?_ (tk_yeo hp hb ?_)))))))
  · rw [tk_rn cw s, tk_a31 hcw, ho]
  · rw [tk_rn cw s, tk_s7 hcw, tk_a3 (by omega), Nat.mod_eq_of_lt hb]
  · have h6 := tk_eo_le (ds := ds) hD.1 hp (rg (4 * p + cw s / 128))
    generalize tk_eo ds p (rg (4 * p + cw s / 128)) = e at *
    have er : nI e - nI e / 2 * 2 = nI (e % 2) := pk_rem (d := 2) (by omega) (by decide) (by decide)
    refine And.intro (by decide) (nm_e ?_)
    refine pk_eq o 14 (fun e14 => h14 e14) (fun n14 => pk_eq o 16 (fun e16 => ?_) (fun n16 => pk_eq o 17 (fun e17 => ?_) (fun n17 => hx n14 n16 n17)))
    · obtain ⟨k1, k2⟩ := h16 e e16 rfl
      refine And.intro (by decide) (pk_eq (e % 2) 1 (fun y => ?_) (fun y => k1 y) er)
      obtain ⟨j1, j2, j3, j4⟩ := k2 y
      have po := tk_po (e := e) (by omega) (by omega)
      refine And.intro (pk_in _ 3 j1 po) (pk_eq (pk ((e - 1) / 2)) 0 (fun y0 => tk_yhas (e := e + 1) hD.1 (by omega) (nI_1 e) ?_) (fun y0 => ?_) ((tk_ri _ po).trans j2))
      · rw [if_pos y0] at j4
        by_cases c : tk_cn ds (e + 1) 24 = 0
        · rw [if_pos c] at j4 ⊢
          exact br_t rfl j4
        · rw [if_neg c] at j4 ⊢
          exact br_f (by decide) j4
      · rw [if_neg y0] at j4
        exact j4
    · obtain ⟨k1, k2⟩ := h17 e e17 rfl
      refine pk_le e 0 (fun y => k1 (Or.inl (by omega))) (fun y => And.intro (by decide) (pk_eq (e % 2) 0 (fun y => ?_) (fun y => k1 (Or.inr y)) er))
      obtain ⟨j1, j2, j3, j4⟩ := k2 (by omega) y
      have po := tk_po (e := e) (by omega) (by omega)
      refine And.intro (pk_in _ 3 j1 po) (pk_eq (pk ((e - 1) / 2)) 4 (fun y0 => tk_yhas (e := e - 1) hD.1 (by omega) (tk_s1 (by omega)) ?_) (fun y0 => ?_) ((tk_ri _ po).trans j2))
      · rw [if_pos y0] at j4
        by_cases c : tk_cn ds (e - 1) 24 = 0
        · rw [if_pos c] at j4 ⊢
          exact br_t rfl j4
        · rw [if_neg c] at j4 ⊢
          exact br_f (by decide) j4
      · rw [if_neg y0] at j4
        exact j4
/-- whether a process waits, for both -/
theorem tk_wait {p s : Nat} (hp : p < 6) (hs : s < 64) (hsp : sp p = nI s) (hcw : cw s < 512) (h : tk_J q hd st ds ps pk rd wr en sh ms pa pm bh qa pw wo fi fr mv me) : ∃ r : Int32, ((r = 0 ∨ r = 1) ∧ (r = 0 → cw s % 32 = 17 → tk_eo ds p (rg (4 * p + cw s / 128)) ≠ 0 → tk_eo ds p (rg (4 * p + cw s / 128)) % 2 = 0 → 0 < tk_cn ds (tk_eo ds p (rg (4 * p + cw s / 128)) - 1) 24 → pk ((tk_eo ds p (rg (4 * p + cw s / 128)) - 1) / 2) ≠ 4)) ∧ (∀ post : Int32 → Prop, post r → wpX_wouldWait post (tk_oi q.head?, tk_oi q.getLast?, nI hd, -1, ex, nI pr, lv, tk_nf (tk_op cw), tk_nf (tk_fA cw), tk_nf (tk_fB cw), fN, tk_nf st, sp, pa, rg, tk_nf ds, bh, tk_nf ps, tk_nf pk, pw, tk_nf rd, tk_nf wr, tk_nf en, tk_nf sh, lt, fr, tk_nf ms, mv, ol) (nI p)) ∧ (∀ post : Int32 → Prop, post r → wpY_waits post (nI q.length, ex, nI pr, tk_nf cw, fN, tk_nf st, pm, sp, rg, tk_nf ds, me, wo, fi, qa, ol) (nI p)) := by
  obtain ⟨hQ, hP, hD, ⟨hM, hh⟩, hC, hZ, h3⟩ := h
  have hb : cw s / 128 < 4 := by omega
  have hth : ∀ e, tk_eo ds p (rg (4 * p + cw s / 128)) = e → e ≠ 0 → 0 < rd ((e - 1) / 2) + wr ((e - 1) / 2) := by
    intro e he hn
    have h6 := tk_eo_le (ds := ds) hD.1 hp (rg (4 * p + cw s / 128))
    rcases tk_eo_c ds p (rg (4 * p + cw s / 128)) with k | ⟨j, j1, j2, j3⟩
    · omega
    · have d1 := (hD.2.1 ((e - 1) / 2) (by omega)).1
      have d2 := (hD.2.1 ((e - 1) / 2) (by omega)).2
      have hj : 4 * p + j < 24 := by omega
      by_cases c : e % 2 = 1
      · have : 0 < tk_cn ds (1 + 2 * ((e - 1) / 2)) 24 := tk_cn_pos 24 hj (by omega)
        omega
      · have : 0 < tk_cn ds (2 + 2 * ((e - 1) / 2)) 24 := tk_cn_pos 24 hj (by omega)
        omega
  have hpk : ∀ k, k < 3 → 0 < rd k + wr k → pk k ≤ 4 := fun k hk ht => (hD.2.2 k hk ht).2.1
  have h6 := tk_eo_le (ds := ds) hD.1 hp (rg (4 * p + cw s / 128))
  by_cases e14 : cw s % 32 = 14
  · obtain ⟨rh, rx, ry, c, X1, X2, Y1⟩ : ∃ rh rx ry : Int32, ((rh = 1 ∧ ∃ j, j < 6 ∧ rx = nI j ∧ ry = nI j ∧ st j = 3 ∧ pa j = nI p) ∨ (rh = 1 ∧ rx = -1 ∧ ry = -1) ∨ (rh = 0 ∧ rx = -1 ∧ ry = -2)) ∧ (∀ post : Int32 → Prop, post rh → wpX_hasChild post (tk_oi q.head?, tk_oi q.getLast?, nI hd, -1, ex, nI pr, lv, tk_nf (tk_op cw), tk_nf (tk_fA cw), tk_nf (tk_fB cw), fN, tk_nf st, sp, pa, rg, tk_nf ds, bh, tk_nf ps, tk_nf pk, pw, tk_nf rd, tk_nf wr, tk_nf en, tk_nf sh, lt, fr, tk_nf ms, mv, ol) (nI p)) ∧ (∀ post : Int32 → Prop, post rx → wpX_endedChild post (tk_oi q.head?, tk_oi q.getLast?, nI hd, -1, ex, nI pr, lv, tk_nf (tk_op cw), tk_nf (tk_fA cw), tk_nf (tk_fB cw), fN, tk_nf st, sp, pa, rg, tk_nf ds, bh, tk_nf ps, tk_nf pk, pw, tk_nf rd, tk_nf wr, tk_nf en, tk_nf sh, lt, fr, tk_nf ms, mv, ol) (nI p)) ∧ (∀ post : Int32 → Prop, post ry → wpY_endedChild post (nI q.length, ex, nI pr, tk_nf cw, fN, tk_nf st, pm, sp, rg, tk_nf ds, me, wo, fi, qa, ol) (nI p)) := tk_ec h3 (fun j hj hn => (hP j hj hn).1) (nI p)
    have XK : ∀ (r : Int32) (post : Int32 → Prop), post r → ((rh = 0 ∧ r = 0) ∨ (rh = 1 ∧ 0 ≤ rx ∧ r = 0) ∨ (rh = 1 ∧ ¬ 0 ≤ rx ∧ r = 1)) → wpX_wouldWait post (tk_oi q.head?, tk_oi q.getLast?, nI hd, -1, ex, nI pr, lv, tk_nf (tk_op cw), tk_nf (tk_fA cw), tk_nf (tk_fB cw), fN, tk_nf st, sp, pa, rg, tk_nf ds, bh, tk_nf ps, tk_nf pk, pw, tk_nf rd, tk_nf wr, tk_nf en, tk_nf sh, lt, fr, tk_nf ms, mv, ol) (nI p) := by
      intro r post h hr
      refine tk_xw hp hs hsp e14 hcw (fun _ => X1 _ ?_) (fun w => absurd w (by omega)) (fun w _ _ => absurd rfl w)
      rcases hr with ⟨a1, a2⟩ | ⟨a1, a2, a3⟩ | ⟨a1, a2, a3⟩
      · subst a2; exact br_t a1 h
      · subst a3; exact br_f (by rw [a1]; decide) (X2 _ (br_t a2 h))
      · subst a3; exact br_f (by rw [a1]; decide) (X2 _ (br_f a2 h))
    have YK : ∀ (r : Int32) (post : Int32 → Prop), post r → ((ry = -1 ∧ r = 1) ∨ (¬ ry = -1 ∧ r = 0)) → wpY_waits post (nI q.length, ex, nI pr, tk_nf cw, fN, tk_nf st, pm, sp, rg, tk_nf ds, me, wo, fi, qa, ol) (nI p) := by
      intro r post h hr
      refine tk_yw hp hs hsp e14 hcw hD (fun _ => Y1 _ ?_) (fun e w => absurd w (by omega)) (fun e w => absurd w (by omega)) (fun w _ _ => absurd rfl w)
      rcases hr with ⟨a1, a2⟩ | ⟨a1, a2⟩
      · subst a2; exact br_t a1 h
      · subst a2; exact br_f a1 h
    rcases c with ⟨c1, j, j1, j2, j3, j4⟩ | ⟨c1, c2, c3⟩ | ⟨c1, c2, c3⟩
    · exact ⟨0, ⟨Or.inl rfl, fun _ w => absurd w (by omega)⟩, fun post h => XK 0 post h (Or.inr (Or.inl ⟨c1, by rw [j2]; exact nI_pos' (by omega), rfl⟩)), fun post h => YK 0 post h (Or.inr ⟨by rw [j3]; exact tk_ne1 (by omega), rfl⟩)⟩
    · exact ⟨1, ⟨Or.inr rfl, fun w => absurd w (by decide)⟩, fun post h => XK 1 post h (Or.inr (Or.inr ⟨c1, by rw [c2]; exact tk_nn1, rfl⟩)), fun post h => YK 1 post h (Or.inl ⟨c3, rfl⟩)⟩
    · exact ⟨0, ⟨Or.inl rfl, fun _ w => absurd w (by omega)⟩, fun post h => XK 0 post h (Or.inl ⟨c1, rfl⟩), fun post h => YK 0 post h (Or.inr ⟨by rw [c3]; decide, rfl⟩)⟩
  · by_cases e16 : cw s % 32 = 16
    · generalize he : tk_eo ds p (rg (4 * p + cw s / 128)) = e at *
      by_cases c : e % 2 = 1
      · have hk : (e - 1) / 2 < 3 := by omega
        obtain ⟨f1, f2, f3, f4⟩ := hD.2.2 _ hk (hth e rfl (by omega))
        have d2 := (hD.2.1 ((e - 1) / 2) hk).2
        rw [show 2 + 2 * ((e - 1) / 2) = e + 1 by omega] at d2
        refine ⟨if pk ((e - 1) / 2) = 0 then (if wr ((e - 1) / 2) = 0 then 0 else 1) else 0, ⟨?_, fun _ w => absurd w (by omega)⟩, fun post h => tk_xw hp hs hsp e16 hcw (fun w => absurd w (by omega)) (fun _ => tk_xw56 hp hs hcw hD (Or.inl rfl) (fun w => absurd w (by omega)) (fun e' h1 _ h2 => absurd h2 (by omega)) (fun e' k h1 h2 h3 h4 h5 => ?_) hpk (fun e' h1 => hth e' (by omega))) (fun _ w _ => absurd rfl w), fun post h => tk_yw hp hs hsp e16 hcw hD (fun w => absurd w (by omega)) (fun e' _ h1 => ?_) (fun e w => absurd w (by omega)) (fun _ w _ => absurd rfl w)⟩
        · split
          · split
            · exact Or.inl rfl
            · exact Or.inr rfl
          · exact Or.inl rfl
        · rw [if_pos rfl]
          obtain rfl : e' = e := by omega
          subst h4
          exact h
        · obtain rfl : e' = e := by omega
          refine ⟨fun w => absurd c w, fun _ => ⟨hk, f1, f2, ?_⟩⟩
          rw [← d2]
          exact h
      · refine ⟨0, ⟨Or.inl rfl, fun _ w => absurd w (by omega)⟩, fun post h => tk_xw hp hs hsp e16 hcw (fun w => absurd w (by omega)) (fun _ => tk_xw56 hp hs hcw hD (Or.inl rfl) (fun w => h) (fun e' h1 _ h2 => h) (fun e' k h1 h2 h3 h4 h5 => absurd h5 (by omega)) hpk (fun e' h1 => hth e' (by omega))) (fun _ w _ => absurd rfl w), fun post h => tk_yw hp hs hsp e16 hcw hD (fun w => absurd w (by omega)) (fun e' _ h1 => ⟨fun _ => h, fun w => absurd w (by omega)⟩) (fun e w => absurd w (by omega)) (fun _ w _ => absurd rfl w)⟩
    · by_cases e17 : cw s % 32 = 17
      · generalize he : tk_eo ds p (rg (4 * p + cw s / 128)) = e at *
        by_cases c : e ≠ 0 ∧ e % 2 = 0
        · have hk : (e - 1) / 2 < 3 := by omega
          obtain ⟨f1, f2, f3, f4⟩ := hD.2.2 _ hk (hth e rfl (by omega))
          have d2 := (hD.2.1 ((e - 1) / 2) hk).1
          rw [show 1 + 2 * ((e - 1) / 2) = e - 1 by omega] at d2
          refine ⟨if pk ((e - 1) / 2) = 4 then (if rd ((e - 1) / 2) = 0 then 0 else 1) else 0, ⟨?_, fun w _ _ _ w2 w3 => ?_⟩, fun post h => tk_xw hp hs hsp e17 hcw (fun w => absurd w (by omega)) (fun _ => tk_xw56 hp hs hcw hD (Or.inr rfl) (fun w => absurd w (by omega)) (fun e' h1 _ h2 => absurd h2 (by omega)) (fun e' k h1 h2 h3 h4 h5 => ?_) hpk (fun e' h1 => hth e' (by omega))) (fun _ _ w => absurd rfl w), fun post h => tk_yw hp hs hsp e17 hcw hD (fun w => absurd w (by omega)) (fun e w => absurd w (by omega)) (fun e' _ h1 => ?_) (fun _ _ w => absurd rfl w)⟩
          · split
            · split
              · exact Or.inl rfl
              · exact Or.inr rfl
            · exact Or.inl rfl
          · rw [if_pos w3, if_neg (by omega)] at w
            exact absurd w (by decide)
          · rw [if_neg (by omega)]
            obtain rfl : e' = e := by omega
            subst h4
            exact h
          · obtain rfl : e' = e := by omega
            refine ⟨fun w => absurd w (by omega), fun _ _ => ⟨hk, f1, f2, ?_⟩⟩
            rw [← d2]
            exact h
        · refine ⟨0, ⟨Or.inl rfl, fun _ _ w1 w2 => absurd ⟨w1, w2⟩ c⟩, fun post h => tk_xw hp hs hsp e17 hcw (fun w => absurd w (by omega)) (fun _ => tk_xw56 hp hs hcw hD (Or.inr rfl) (fun w => h) (fun e' h1 _ h2 => h) (fun e' k h1 h2 h3 h4 h5 => absurd h5 (by omega)) hpk (fun e' h1 => hth e' (by omega))) (fun _ _ w => absurd rfl w), fun post h => tk_yw hp hs hsp e17 hcw hD (fun w => absurd w (by omega)) (fun e w => absurd w (by omega)) (fun e' _ h1 => ⟨fun _ => h, fun w1 w2 => absurd (And.intro w1 w2) (by omega)⟩) (fun _ _ w => absurd rfl w)⟩
      · exact ⟨0, ⟨Or.inl rfl, fun _ w => absurd w e17⟩, fun post h => tk_xw hp hs hsp rfl hcw (fun w => absurd w e14) (fun w => absurd w (by omega)) (fun _ _ _ => h), fun post h => tk_yw hp hs hsp rfl hcw hD (fun w => absurd w e14) (fun e w => absurd w e16) (fun e w => absurd w e17) (fun _ _ _ => h)⟩
end TKV
end
section
section TKX
variable {q : List Nat} {hd pr : Nat} {ex : Int64} {lv : Int32} {fN sp pa rg bh pw lt fr mv ol : Nat → Int32} {cw st ds ps pk rd wr en sh ms : Nat → Nat}
variable {pm me wo fi qa : Nat → Int32}
/-- X: execute, by the instruction -/
theorem tk_xx {post : SX → Prop} {p s o a b : Nat} (hp : p < 6) (hs : s < 64) (ho : cw s % 32 = o) (ha : cw s / 32 % 4 = a) (hb : cw s / 128 = b) (hcw : cw s < 512) (h0 : o = 0 → wpX_end post (tk_oi q.head?, tk_oi q.getLast?, nI hd, -1, ex, nI pr, lv, tk_nf (tk_op cw), tk_nf (tk_fA cw), tk_nf (tk_fB cw), fN, tk_nf st, upd sp p (nI (s + 1)), pa, rg, tk_nf ds, bh, tk_nf ps, tk_nf pk, pw, tk_nf rd, tk_nf wr, tk_nf en, tk_nf sh, lt, fr, tk_nf ms, mv, ol) (nI p) (rg (4 * p + a))) (h7 : 1 ≤ o → o ≤ 7 → wpX_calculate post (tk_oi q.head?, tk_oi q.getLast?, nI hd, -1, ex, nI pr, lv, tk_nf (tk_op cw), tk_nf (tk_fA cw), tk_nf (tk_fB cw), fN, tk_nf st, upd sp p (nI (s + 1)), pa, rg, tk_nf ds, bh, tk_nf ps, tk_nf pk, pw, tk_nf rd, tk_nf wr, tk_nf en, tk_nf sh, lt, fr, tk_nf ms, mv, ol) (nI o) (nI (4 * p + a)) (nI (4 * p + b)) (fN s)) (h8 : o = 8 ∨ o = 9 → wpX_touch post (tk_oi q.head?, tk_oi q.getLast?, nI hd, -1, ex, nI pr, lv, tk_nf (tk_op cw), tk_nf (tk_fA cw), tk_nf (tk_fB cw), fN, tk_nf st, upd sp p (nI (s + 1)), pa, rg, tk_nf ds, bh, tk_nf ps, tk_nf pk, pw, tk_nf rd, tk_nf wr, tk_nf en, tk_nf sh, lt, fr, tk_nf ms, mv, ol) (nI p) (nI o) (nI (4 * p + a)) (rg (4 * p + b) + fN s)) (h12 : 10 ≤ o → o ≤ 12 → ((o = 11 ∨ (rg (4 * p + a) = 0 ↔ o = 10)) → post (tk_oi q.head?, tk_oi q.getLast?, nI hd, -1, ex, nI pr, lv, tk_nf (tk_op cw), tk_nf (tk_fA cw), tk_nf (tk_fB cw), fN, tk_nf st, upd (upd sp p (nI (s + 1))) p (fN s), pa, rg, tk_nf ds, bh, tk_nf ps, tk_nf pk, pw, tk_nf rd, tk_nf wr, tk_nf en, tk_nf sh, lt, fr, tk_nf ms, mv, ol)) ∧ (¬ (o = 11 ∨ (rg (4 * p + a) = 0 ↔ o = 10)) → post (tk_oi q.head?, tk_oi q.getLast?, nI hd, -1, ex, nI pr, lv, tk_nf (tk_op cw), tk_nf (tk_fA cw), tk_nf (tk_fB cw), fN, tk_nf st, upd sp p (nI (s + 1)), pa, rg, tk_nf ds, bh, tk_nf ps, tk_nf pk, pw, tk_nf rd, tk_nf wr, tk_nf en, tk_nf sh, lt, fr, tk_nf ms, mv, ol))) (h17 : o = 17 → wpX_writePipe (fun r u => (r = 0 → wpX_end post u (nI p) (-2)) ∧ (¬ r = 0 → post u)) (tk_oi q.head?, tk_oi q.getLast?, nI hd, -1, ex, nI pr, lv, tk_nf (tk_op cw), tk_nf (tk_fA cw), tk_nf (tk_fB cw), fN, tk_nf st, upd sp p (nI (s + 1)), pa, rg, tk_nf ds, bh, tk_nf ps, tk_nf pk, pw, tk_nf rd, tk_nf wr, tk_nf en, tk_nf sh, lt, fr, tk_nf ms, mv, ol) (nI p) (nI (tk_eo ds p (rg (4 * p + b)))) (nI a)) (h14 : o = 14 → wpX_takeChild post (tk_oi q.head?, tk_oi q.getLast?, nI hd, -1, ex, nI pr, lv, tk_nf (tk_op cw), tk_nf (tk_fA cw), tk_nf (tk_fB cw), fN, tk_nf st, upd sp p (nI (s + 1)), pa, rg, tk_nf ds, bh, tk_nf ps, tk_nf pk, pw, tk_nf rd, tk_nf wr, tk_nf en, tk_nf sh, lt, fr, tk_nf ms, mv, ol) (nI p) (nI (4 * p + a)) (nI (4 * p + b))) (h15 : o = 15 → wpX_makePipe post (tk_oi q.head?, tk_oi q.getLast?, nI hd, -1, ex, nI pr, lv, tk_nf (tk_op cw), tk_nf (tk_fA cw), tk_nf (tk_fB cw), fN, tk_nf st, upd sp p (nI (s + 1)), pa, rg, tk_nf ds, bh, tk_nf ps, tk_nf pk, pw, tk_nf rd, tk_nf wr, tk_nf en, tk_nf sh, lt, fr, tk_nf ms, mv, ol) (nI p) (nI a) (nI b)) (h21 : o = 21 → wpX_print post (tk_oi q.head?, tk_oi q.getLast?, nI hd, -1, ex, nI pr, lv, tk_nf (tk_op cw), tk_nf (tk_fA cw), tk_nf (tk_fB cw), fN, tk_nf st, upd sp p (nI (s + 1)), pa, rg, tk_nf ds, bh, tk_nf ps, tk_nf pk, pw, tk_nf rd, tk_nf wr, tk_nf en, tk_nf sh, lt, fr, tk_nf ms, mv, ol) (rg (4 * p + a))) (h20 : o = 20 → post (tk_oi q.head?, tk_oi q.getLast?, nI hd, -1, ex, nI pr, lv, tk_nf (tk_op cw), tk_nf (tk_fA cw), tk_nf (tk_fB cw), fN, tk_nf st, upd sp p (nI (s + 1)), pa, rg, tk_nf ds, bh, tk_nf ps, tk_nf pk, pw, tk_nf rd, tk_nf wr, tk_nf en, tk_nf sh, lt, fr, tk_nf ms, mv, ol)) (hk : 12 < o → o ≠ 17 → o ≠ 14 → o ≠ 15 → o ≠ 21 → o ≠ 20 → wpX_askKernel post (tk_oi q.head?, tk_oi q.getLast?, nI hd, -1, ex, nI pr, lv, tk_nf (tk_op cw), tk_nf (tk_fA cw), tk_nf (tk_fB cw), fN, tk_nf st, upd sp p (nI (s + 1)), pa, rg, tk_nf ds, bh, tk_nf ps, tk_nf pk, pw, tk_nf rd, tk_nf wr, tk_nf en, tk_nf sh, lt, fr, tk_nf ms, mv, ol) (nI p) (nI o) (nI (4 * p + a)) (rg (4 * p + b))) : wpX_execute post (tk_oi q.head?, tk_oi q.getLast?, nI hd, -1, ex, nI pr, lv, tk_nf (tk_op cw), tk_nf (tk_fA cw), tk_nf (tk_fB cw), fN, tk_nf st, sp, pa, rg, tk_nf ds, bh, tk_nf ps, tk_nf pk, pw, tk_nf rd, tk_nf wr, tk_nf en, tk_nf sh, lt, fr, tk_nf ms, mv, ol) (nI p) (nI s) := by
  have ho' : tk_nf (tk_op cw) s = nI o := congrArg nI ho
  have h32 : o < 32 := by omega
  have ha4 : a < 4 := by omega
  have hb4 : b < 4 := by omega
  have is : vp_in (nI s) 64 := pk_in s 64 hs
  have ea : 4 * nI p + tk_nf (tk_fA cw) (nI s).toNatClampNeg = nI (4 * p + a) := by
    rw [tk_rn (tk_fA cw) s, ← ha]; exact tk_i4 p (cw s / 32 % 4)
  have eb : 4 * nI p + tk_nf (tk_fB cw) (nI s).toNatClampNeg = nI (4 * p + b) := by
    rw [tk_rn (tk_fB cw) s, ← hb]; exact tk_i4 p (cw s / 128)
  have sa : nI (4 * p + a) - 4 * nI p = nI a := by
    rw [tk_m4, pk_sub (by omega)]; exact congrArg nI (by omega)
  have sb : nI (4 * p + b) - 4 * nI p = nI b := by
    rw [tk_m4, pk_sub (by omega)]; exact congrArg nI (by omega)
  have ia : vp_in (nI (4 * p + a)) 24 := pk_in (4 * p + a) 24 (by omega)
  have ib : vp_in (nI (4 * p + b)) 24 := pk_in (4 * p + b) 24 (by omega)
  have ra : rg (nI (4 * p + a)).toNatClampNeg = rg (4 * p + a) := tk_ri (4 * p + a)
  have rb : rg (nI (4 * p + b)).toNatClampNeg = rg (4 * p + b) := tk_ri (4 * p + b)
  refine tk_ld s (nI o) hs (And.intro is (nm_r ea (And.intro is (nm_r eb (tk_ld s (fN s) hs (tk_st p (nI (s + 1)) hp ?_ rfl (nI_1 s))))))) rfl ho'
  refine pk_eq o 0 (fun e => And.intro ia ?_) (fun n0 => pk_lt 7 o (fun l7 => pk_eq o 8 (fun e8 => And.intro ib ?_) (fun n8 => pk_eq o 9 (fun e9 => And.intro ib ?_) (fun n9 => pk_lt 12 o (fun l12 => pk_eq o 17 (fun e17 => And.intro ib ?_) (fun n17 => pk_eq o 14 (fun e14 => ?_) (fun n14 => pk_eq o 15 (fun e15 => ?_) (fun n15 => pk_eq o 21 (fun e21 => And.intro ia ?_) (fun n21 => pk_eq o 20 (fun e20 => ?_) (fun n20 => And.intro ib ?_)))))) (fun g12 => And.intro ia ?_)))) (fun g7 => ?_))
  · rw [ra]; exact h0 e
  · rw [rb]; exact h8 (Or.inl e8)
  · rw [rb]; exact h8 (Or.inr e9)
  · rw [rb, sa]; exact tk_xea hp (h17 e17)
  · exact h14 e14
  · rw [sa, sb]; exact h15 e15
  · rw [ra]; exact h21 e21
  · exact h20 e20
  · rw [rb]; exact hk l12 n17 n14 n15 n21 n20
  · obtain ⟨k1, k2⟩ := h12 (by omega) (by omega)
    have G : ∀ z : Nat, (z = 1 ∧ rg (4 * p + a) = 0 ∨ z = 0 ∧ ¬ rg (4 * p + a) = 0) → wX_execute_141 post (nI p) (nI o) (fN s) (nI z) (tk_oi q.head?) (tk_oi q.getLast?) (nI hd) (-1) ex (nI pr) lv (tk_nf (tk_op cw)) (tk_nf (tk_fA cw)) (tk_nf (tk_fB cw)) fN (tk_nf st) (upd sp p (nI (s + 1))) pa rg (tk_nf ds) bh (tk_nf ps) (tk_nf pk) pw (tk_nf rd) (tk_nf wr) (tk_nf en) (tk_nf sh) lt fr (tk_nf ms) mv ol := by
      intro z hz
      refine pk_eq o 11 (fun e11 => tk_st p (fN s) hp (k1 (Or.inl e11))) (fun n11 => pk_eq o 10 (fun e10 => ?_) (fun n10 => ?_))
      · refine pk_eq z 1 (fun ez => tk_st p (fN s) hp (k1 (Or.inr ?_))) (fun ez => k2 ?_)
        · rcases hz with hz | hz
          · exact ⟨fun _ => e10, fun _ => hz.2⟩
          · omega
        · rcases hz with hz | hz
          · omega
          · intro w
            rcases w with w | w
            · exact n11 w
            · exact hz.2 (w.mpr e10)
      · refine pk_eq z 0 (fun ez => tk_st p (fN s) hp (k1 (Or.inr ?_))) (fun ez => k2 ?_)
        · rcases hz with hz | hz
          · omega
          · exact ⟨fun w => absurd w hz.2, fun w => absurd w n10⟩
        · rcases hz with hz | hz
          · intro w
            rcases w with w | w
            · exact n11 w
            · exact n10 (w.mp hz.2)
          · omega
    rw [ra]
    exact br_c (fun z => G 1 (Or.inl ⟨rfl, z⟩)) (fun z => G 0 (Or.inr ⟨rfl, z⟩))
  · exact h7 (by omega) g7
/-- Y: execute, by the instruction -/
theorem tk_yx {post : Int32 → SY → Prop} {p s o a b : Nat} (hp : p < 6) (hs : s < 64) (hsp : sp p = nI s) (ho : cw s % 32 = o) (ha : cw s / 32 % 4 = a) (hb : cw s / 128 = b) (hcw : cw s < 512) (h0 : o = 0 → wpY_end (fun u => post 0 u) (nI q.length, ex + 1, nI pr, tk_nf cw, fN, tk_nf st, pm, sp, rg, tk_nf ds, me, wo, fi, qa, ol) (nI p) (rg (4 * p + a))) (h12 : 10 ≤ o → o ≤ 12 → ((o = 11 ∨ (rg (4 * p + a) = 0 ↔ o = 10)) → post 1 (nI q.length, ex + 1, nI pr, tk_nf cw, fN, tk_nf st, pm, upd sp p (fN s), rg, tk_nf ds, me, wo, fi, qa, ol)) ∧ (¬ (o = 11 ∨ (rg (4 * p + a) = 0 ↔ o = 10)) → post 1 (nI q.length, ex + 1, nI pr, tk_nf cw, fN, tk_nf st, pm, upd sp p (nI (s + 1)), rg, tk_nf ds, me, wo, fi, qa, ol))) (h8 : o = 8 ∨ o = 9 → wY_execute_208 post (nI p) (nI o) (nI a) (nI b) (fN s) (nI (4 * p + a)) (rg (4 * p + a)) (rg (4 * p + b)) (nI q.length) (ex + 1) (nI pr) (tk_nf cw) fN (tk_nf st) pm sp rg (tk_nf ds) me wo fi qa ol) (hx : o ≠ 0 → o < 8 ∨ 12 < o → wY_execute_231 post (nI p) (nI o) (nI a) (nI b) (fN s) (nI (4 * p + a)) (rg (4 * p + a)) (rg (4 * p + b)) (nI q.length) (ex + 1) (nI pr) (tk_nf cw) fN (tk_nf st) pm sp rg (tk_nf ds) me wo fi qa ol) : wpY_execute post (nI q.length, ex, nI pr, tk_nf cw, fN, tk_nf st, pm, sp, rg, tk_nf ds, me, wo, fi, qa, ol) (nI p) := by
  have hsr : sp (nI p).toNatClampNeg = nI s := (tk_ri p).trans hsp
  have h32 : o < 32 := by omega
  have ha4 : a < 4 := by omega
  have hb4 : b < 4 := by omega
  have h63 : ¬ (63 : Int32) < nI s := nI_nlt (a := 63) (b := s) (by omega) (by omega)
  refine nm_e (And.intro (pk_in p 6 hp) (tk_yin ?_))
  rw [hsr, if_neg (nI_pos (by omega)), if_neg h63]
  refine br_f (by decide) (And.intro (pk_in p 6 hp) (tk_ld s (nI (cw s)) hs (nm_r (e' := nI o) ?_ (nm_r (e' := nI a) ?_ (nm_r (e' := nI b) ?_ (And.intro (pk_in p 6 hp) (tk_ld s (fN s) hs (nm_r (tk_i4 p a) (tk_ld (4 * p + a) (rg (4 * p + a)) (by omega) (tk_ld (4 * p + b) (rg (4 * p + b)) (by omega) ?_ (tk_i4 p b)))))))))))
  · rw [tk_a31 hcw, ho]
  · rw [tk_s5 hcw, tk_a3 (by omega), ha]
  · rw [tk_s7 hcw, hb]
  · have Y163 : (o = 11 ∨ (rg (4 * p + a) = 0 ↔ o = 10)) → 10 ≤ o → o ≤ 12 → wY_execute_163 post (nI p) (fN s) (nI q.length) (ex + 1) (nI pr) (tk_nf cw) fN (tk_nf st) pm sp rg (tk_nf ds) me wo fi qa ol := fun w l1 l2 => br_f (by decide) (tk_st p (fN s) hp ((h12 l1 l2).1 w))
    have Y168 : ¬ (o = 11 ∨ (rg (4 * p + a) = 0 ↔ o = 10)) → 10 ≤ o → o ≤ 12 → wY_execute_168 post (nI p) (fN s) 0 (nI q.length) (ex + 1) (nI pr) (tk_nf cw) fN (tk_nf st) pm sp rg (tk_nf ds) me wo fi qa ol := fun w l1 l2 => br_t rfl (And.intro (pk_in p 6 hp) (tk_st p (nI (s + 1)) hp ((h12 l1 l2).2 w) rfl (by rw [hsr]; exact nI_1 s)))
    have X196 : o ≠ 0 → o < 10 ∨ 12 < o → wY_execute_196 post (nI p) (nI o) (nI a) (nI b) (fN s) (nI (4 * p + a)) (rg (4 * p + a)) (rg (4 * p + b)) (nI q.length) (ex + 1) (nI pr) (tk_nf cw) fN (tk_nf st) pm sp rg (tk_nf ds) me wo fi qa ol := fun n0 w => pk_eq o 8 (fun e => h8 (Or.inl e)) (fun n8 => pk_eq o 9 (fun e => h8 (Or.inr e)) (fun n9 => hx n0 (by omega)))
    refine pk_eq o 0 (fun e => h0 e) (fun n0 => pk_lt o 10 (fun l => X196 n0 (Or.inl l)) (fun g10 => pk_lt 12 o (fun l => X196 n0 (Or.inr l)) (fun g12 => pk_eq o 11 (fun e11 => Y163 (Or.inl e11) g10 g12) (fun n11 => br_c (fun z => pk_eq o 10 (fun e10 => br_t rfl (Y163 (Or.inr ⟨fun _ => e10, fun _ => z⟩) g10 g12)) (fun n10 => br_f (by decide) (Y168 (fun w => ?_) g10 g12))) (fun z => pk_eq o 10 (fun e10 => br_f (by decide) (Y168 (fun w => ?_) g10 g12)) (fun n10 => br_t rfl (Y163 (Or.inr ⟨fun w => absurd w z, fun w => absurd w n10⟩) g10 g12)))))))
    · rcases w with w | w
      · exact n11 w
      · exact n10 (w.mp z)
    · rcases w with w | w
      · exact n11 w
      · exact z (w.mpr e10)
/-- Y: the end of an instruction that goes on -/
theorem tk_y330 {post : Int32 → SY → Prop} {p s o : Nat} (hp : p < 6) (hsp : sp p = nI s) (h32 : o < 32) (h : post (if o = 20 then 0 else 1) (nI q.length, ex, nI pr, tk_nf cw, fN, tk_nf st, pm, upd sp p (nI (s + 1)), rg, tk_nf ds, me, wo, fi, qa, ol)) : wY_execute_330 post (nI p) (nI o) (nI q.length) ex (nI pr) (tk_nf cw) fN (tk_nf st) pm sp rg (tk_nf ds) me wo fi qa ol := by
  refine And.intro (pk_in p 6 hp) (tk_st p (nI (s + 1)) hp ?_ rfl (by rw [tk_ri (a := sp) p, hsp]; exact nI_1 s))
  refine pk_eq o 20 (fun e => ?_) (fun n => ?_)
  · rw [if_pos e] at h; exact h
  · rw [if_neg n] at h; exact h
/-- Y: an instruction beyond 12 -/
theorem tk_y231 {post : Int32 → SY → Prop} {p o a b : Nat} {n x7 x8 x9 : Int32} (h12 : 12 < o) (h32 : o < 32) (h : wpY_call (fun r u => (r = 0 → post 0 u) ∧ (¬ r = 0 → wY_execute_330 post (nI p) (nI o) u.1 u.2.1 u.2.2.1 u.2.2.2.1 u.2.2.2.2.1 u.2.2.2.2.2.1 u.2.2.2.2.2.2.1 u.2.2.2.2.2.2.2.1 u.2.2.2.2.2.2.2.2.1 u.2.2.2.2.2.2.2.2.2.1 u.2.2.2.2.2.2.2.2.2.2.1 u.2.2.2.2.2.2.2.2.2.2.2.1 u.2.2.2.2.2.2.2.2.2.2.2.2.1 u.2.2.2.2.2.2.2.2.2.2.2.2.2.1 u.2.2.2.2.2.2.2.2.2.2.2.2.2.2)) (nI q.length, ex, nI pr, tk_nf cw, fN, tk_nf st, pm, sp, rg, tk_nf ds, me, wo, fi, qa, ol) (nI p) (nI o) (nI a) (nI b)) : wY_execute_231 post (nI p) (nI o) (nI a) (nI b) n x7 x8 x9 (nI q.length) ex (nI pr) (tk_nf cw) fN (tk_nf st) pm sp rg (tk_nf ds) me wo fi qa ol := pk_eq o 8 (fun e => absurd e (by omega)) (fun _ => pk_eq o 9 (fun e => absurd e (by omega)) (fun _ => pk_lt 7 o (fun _ => h) (fun e => absurd e (by omega))))
/-- Y: call, by the instruction -/
theorem tk_yc {post : Int32 → SY → Prop} {p o a b : Nat} (hp : p < 6) (ha : a < 4) (hb : b < 4) (h32 : o < 32) (h14 : o = 14 → wpY_await (fun u => post 1 u) (nI q.length, ex, nI pr, tk_nf cw, fN, tk_nf st, pm, sp, rg, tk_nf ds, me, wo, fi, qa, ol) (nI p) (nI a) (nI b)) (h15 : o = 15 → wpY_makePipe (fun u => post 1 u) (nI q.length, ex, nI pr, tk_nf cw, fN, tk_nf st, pm, sp, rg, tk_nf ds, me, wo, fi, qa, ol) (nI p) (nI a) (nI b)) (h17 : o = 17 → wpY_write (fun r u => narrow .boolean (.int r) = .int r ∧ post r u) (nI q.length, ex, nI pr, tk_nf cw, fN, tk_nf st, pm, sp, rg, tk_nf ds, me, wo, fi, qa, ol) (nI p) (nI a) (nI (tk_eo ds p (rg (4 * p + b))))) (h13 : o = 13 → wpY_fork (fun r u => wY_call_100 post (nI p) (nI o) (nI a) (nI b) (nI (4 * p + a)) (rg (4 * p + b)) (nI (tk_eo ds p (rg (4 * p + b)))) r u.1 u.2.1 u.2.2.1 u.2.2.2.1 u.2.2.2.2.1 u.2.2.2.2.2.1 u.2.2.2.2.2.2.1 u.2.2.2.2.2.2.2.1 u.2.2.2.2.2.2.2.2.1 u.2.2.2.2.2.2.2.2.2.1 u.2.2.2.2.2.2.2.2.2.2.1 u.2.2.2.2.2.2.2.2.2.2.2.1 u.2.2.2.2.2.2.2.2.2.2.2.2.1 u.2.2.2.2.2.2.2.2.2.2.2.2.2.1 u.2.2.2.2.2.2.2.2.2.2.2.2.2.2) (nI q.length, ex, nI pr, tk_nf cw, fN, tk_nf st, pm, sp, rg, tk_nf ds, me, wo, fi, qa, ol) (nI p)) (hx : o ≠ 13 → o ≠ 14 → o ≠ 15 → o ≠ 17 → wY_call_100 post (nI p) (nI o) (nI a) (nI b) (nI (4 * p + a)) (rg (4 * p + b)) (nI (tk_eo ds p (rg (4 * p + b)))) (rg (4 * p + a)) (nI q.length) ex (nI pr) (tk_nf cw) fN (tk_nf st) pm sp rg (tk_nf ds) me wo fi qa ol) : wpY_call post (nI q.length, ex, nI pr, tk_nf cw, fN, tk_nf st, pm, sp, rg, tk_nf ds, me, wo, fi, qa, ol) (nI p) (nI o) (nI a) (nI b) := by
  refine nm_r (tk_i4 p a) (tk_ld (4 * p + b) (rg (4 * p + b)) (by omega) (tk_yeo hp hb ?_) (tk_i4 p b))
  exact pk_eq o 14 (fun e => h14 e) (fun n14 => pk_eq o 15 (fun e => h15 e) (fun n15 => pk_eq o 17 (fun e => h17 e) (fun n17 => tk_ld (4 * p + a) (rg (4 * p + a)) (by omega) (pk_eq o 13 (fun e => h13 e) (fun n13 => hx n13 n14 n15 n17)))))
end TKX
end
section
section TKL
variable {q : List Nat} {hd pr : Nat} {ex : Int64} {lv : Int32} {fN sp pa rg bh pw lt fr mv ol : Nat → Int32} {cw st ds ps pk rd wr en sh ms : Nat → Nat}
variable {pm me wo fi qa : Nat → Int32}
theorem tk_uu {f : Nat → Int32} {k : Nat} {x y : Int32} : upd (upd f k x) k y = upd f k y := by
  funext j
  show (if j = k then y else if j = k then x else f j) = if j = k then y else f j
  split <;> rfl
theorem tk_uc {f : Nat → Int32} {i j : Nat} {x y : Int32} (h : i ≠ j) : upd (upd f i x) j y = upd (upd f j y) i x := by
  funext k
  show (if k = j then y else if k = i then x else f k) = if k = i then x else if k = j then y else f k
  by_cases e : k = j
  · rw [if_pos e, if_neg (by omega), if_pos e]
  · rw [if_neg e]
    by_cases e2 : k = i
    · rw [if_pos e2, if_pos e2]
    · rw [if_neg e2, if_neg e2, if_neg e]
/-- a process that waits has a spot in the code -/
def tk_S (st : Nat → Nat) (sp : Nat → Int32) : Prop := ∀ j, j < 6 → st j = 2 → ∃ s, s < 64 ∧ sp j = nI s
/-- the relation -/
def tk_Rel (b : Nat) (T : List Nat → (Nat → Nat) → Prop) (cw : Nat → Nat) (u : SX) (v : SY) : Prop := ∃ (q : List Nat) (hd pr : Nat) (st ds ps pk rd wr en sh ms : Nat → Nat) (ex : Int64) (lv : Int32) (fN sp pa rg bh pw lt fr mv ol pm me wo fi qa : Nat → Int32), (tk_J q hd st ds ps pk rd wr en sh ms pa pm bh qa pw wo fi fr mv me ∧ tk_S st sp ∧ pr ≤ b ∧ T q st) ∧ u = (tk_oi q.head?, tk_oi q.getLast?, nI hd, -1, ex, nI pr, lv, tk_nf (tk_op cw), tk_nf (tk_fA cw), tk_nf (tk_fB cw), fN, tk_nf st, sp, pa, rg, tk_nf ds, bh, tk_nf ps, tk_nf pk, pw, tk_nf rd, tk_nf wr, tk_nf en, tk_nf sh, lt, fr, tk_nf ms, mv, ol) ∧ v = (nI q.length, ex, nI pr, tk_nf cw, fN, tk_nf st, pm, sp, rg, tk_nf ds, me, wo, fi, qa, ol)
theorem tk_in {b : Nat} {T : List Nat → (Nat → Nat) → Prop} (hJ : tk_J q hd st ds ps pk rd wr en sh ms pa pm bh qa pw wo fi fr mv me) (hS : tk_S st sp) (hb : pr ≤ b) (hT : T q st) : tk_Rel b T cw (tk_oi q.head?, tk_oi q.getLast?, nI hd, -1, ex, nI pr, lv, tk_nf (tk_op cw), tk_nf (tk_fA cw), tk_nf (tk_fB cw), fN, tk_nf st, sp, pa, rg, tk_nf ds, bh, tk_nf ps, tk_nf pk, pw, tk_nf rd, tk_nf wr, tk_nf en, tk_nf sh, lt, fr, tk_nf ms, mv, ol) (nI q.length, ex, nI pr, tk_nf cw, fN, tk_nf st, pm, sp, rg, tk_nf ds, me, wo, fi, qa, ol) := ⟨q, hd, pr, st, ds, ps, pk, rd, wr, en, sh, ms, ex, lv, fN, sp, pa, rg, bh, pw, lt, fr, mv, ol, pm, me, wo, fi, qa, ⟨hJ, hS, hb, hT⟩, rfl, rfl⟩
theorem tk_el {b : Nat} {T : List Nat → (Nat → Nat) → Prop} {cw : Nat → Nat} {P : SX → SY → Prop} (h : ∀ (q : List Nat) (hd pr : Nat) (st ds ps pk rd wr en sh ms : Nat → Nat) (ex : Int64) (lv : Int32) (fN sp pa rg bh pw lt fr mv ol pm me wo fi qa : Nat → Int32), tk_J q hd st ds ps pk rd wr en sh ms pa pm bh qa pw wo fi fr mv me → tk_S st sp → pr ≤ b → T q st → P (tk_oi q.head?, tk_oi q.getLast?, nI hd, -1, ex, nI pr, lv, tk_nf (tk_op cw), tk_nf (tk_fA cw), tk_nf (tk_fB cw), fN, tk_nf st, sp, pa, rg, tk_nf ds, bh, tk_nf ps, tk_nf pk, pw, tk_nf rd, tk_nf wr, tk_nf en, tk_nf sh, lt, fr, tk_nf ms, mv, ol) (nI q.length, ex, nI pr, tk_nf cw, fN, tk_nf st, pm, sp, rg, tk_nf ds, me, wo, fi, qa, ol)) {u : SX} {v : SY} (I : tk_Rel b T cw u v) : P u v := Exists.elim I fun q I => Exists.elim I fun hd I => Exists.elim I fun pr I => Exists.elim I fun st I => Exists.elim I fun ds I => Exists.elim I fun ps I => Exists.elim I fun pk I => Exists.elim I fun rd I => Exists.elim I fun wr I => Exists.elim I fun en I => Exists.elim I fun sh I => Exists.elim I fun ms I => Exists.elim I fun ex I => Exists.elim I fun lv I => Exists.elim I fun fN I => Exists.elim I fun sp I => Exists.elim I fun pa I => Exists.elim I fun rg I => Exists.elim I fun bh I => Exists.elim I fun pw I => Exists.elim I fun lt I => Exists.elim I fun fr I => Exists.elim I fun mv I => Exists.elim I fun ol I => Exists.elim I fun pm I => Exists.elim I fun me I => Exists.elim I fun wo I => Exists.elim I fun fi I => Exists.elim I fun qa I => I.2.1.symm ▸ I.2.2.symm ▸ h q hd pr st ds ps pk rd wr en sh ms ex lv fN sp pa rg bh pw lt fr mv ol pm me wo fi qa I.1.1 I.1.2.1 I.1.2.2.1 I.1.2.2.2
theorem tk_mono {b b' : Nat} {T T' : List Nat → (Nat → Nat) → Prop} {u : SX} {v : SY} (I : tk_Rel b T cw u v) (hb : b ≤ b') (hT : ∀ q st, T q st → T' q st) : tk_Rel b' T' cw u v := tk_el (P := fun u v => tk_Rel b' T' cw u v) (fun q hd pr st ds ps pk rd wr en sh ms ex lv fN sp pa rg bh pw lt fr mv ol pm me wo fi qa hJ hS h hT' => tk_in hJ hS (Nat.le_trans h hb) (hT q st hT')) I
theorem tk_S_u {p : Nat} {x : Int32} (hS : tk_S st sp) (h1 : st p ≠ 2) : tk_S st (upd sp p x) := by
  intro j hj h2
  have e : j ≠ p := by
    intro e
    subst e
    exact h1 h2
  rw [pk_un e]
  exact hS j hj h2
/-- pipes changed by a live process -/
theorem tk_J_D {p : Nat} {ds' rd' wr' ps' pk' : Nat → Nat} {pw' wo' fi' : Nat → Int32} (h1 : st p = 1) (hJ : tk_J q hd st ds ps pk rd wr en sh ms pa pm bh qa pw wo fi fr mv me) (hD : tk_D ds' rd' wr' ps' pk' pw' wo' fi') (hd' : ∀ j, j / 4 ≠ p → ds' j = ds j) : tk_J q hd st ds' ps' pk' rd' wr' en sh ms pa pm bh qa pw' wo' fi' fr mv me := by
  obtain ⟨hQ, hP, _, hM, hC, hZ, h3⟩ := hJ
  refine ⟨hQ, hP, hD, hM, hC, fun j hj n1 n2 d hd4 => ?_, h3⟩
  have hjp : j ≠ p := by
    intro e
    subst e
    exact n1 h1
  rw [hd' _ (by omega)]
  exact hZ j hj n1 n2 d hd4
/-- a child taken -/
theorem tk_J_f {c : Nat} (h3 : st c = 3) (hJ : tk_J q hd st ds ps pk rd wr en sh ms pa pm bh qa pw wo fi fr mv me) : tk_J q hd (tk_nu st c 0) ds ps pk rd wr en sh ms pa pm bh qa pw wo fi fr mv me := by
  obtain ⟨⟨Q1, Q2, Q3, Q4⟩, hP, hD, hM, hC, hZ, hl⟩ := hJ
  have ne : ∀ j, tk_nu st c 0 j = st j ∨ (j = c ∧ tk_nu st c 0 j = 0) := by
    intro j
    by_cases e : j = c
    · subst e; exact Or.inr ⟨rfl, tk_nus⟩
    · exact Or.inl (tk_nun e)
  refine ⟨⟨Q1, fun x hx => ?_, Q3, Q4⟩, fun j hj hn => ?_, hD, hM, fun j hj ha => ?_, fun j hj n1 n2 => ?_, fun j => ?_⟩
  · obtain ⟨x1, x2⟩ := Q2 x hx
    rcases ne x with e | ⟨e, _⟩
    · rw [e]; exact ⟨x1, x2⟩
    · subst e; omega
  · rcases ne j with e | ⟨_, e⟩
    · rw [e] at hn; exact hP j hj hn
    · exact absurd e hn
  · rcases ne j with e | ⟨_, e⟩
    · rw [e] at ha; exact hC j hj ha
    · omega
  · rcases ne j with e | ⟨e, _⟩
    · rw [e] at n1 n2; exact hZ j hj n1 n2
    · subst e; exact hZ j hj (by omega) (by omega)
  · have := hl j
    rcases ne j with e | ⟨_, e⟩ <;> omega
/-- memory moved about -/
theorem tk_J_m {hd' : Nat} {en' sh' ms' : Nat → Nat} {fr' mv' : Nat → Int32} (hJ : tk_J q hd st ds ps pk rd wr en sh ms pa pm bh qa pw wo fi fr mv me) (hh : hd' < 10) (hM : tk_M en' sh' ms') (hs : tk_same en fr mv en' fr' mv') : tk_J q hd' st ds ps pk rd wr en' sh' ms' pa pm bh qa pw wo fi fr' mv' me := by
  obtain ⟨hQ, hP, hD, _, hC, hZ, h3⟩ := hJ
  refine ⟨hQ, hP, hD, ⟨hM, hh⟩, fun j hj ha i hi => ?_, fun j hj n1 n2 d hd4 => ?_, h3⟩
  · rw [hs.2 _ _ (by omega) (by omega)]; exact hC j hj ha i hi
  · obtain ⟨z1, z2⟩ := hZ j hj n1 n2 d hd4
    exact ⟨z1, (hs.1 _ (by omega)).mpr z2⟩
/-- a word written -/
theorem tk_J_w {p i hd' : Nat} {v : Int32} {en' sh' ms' : Nat → Nat} {fr' mv' : Nat → Int32} (hJ : tk_J q hd st ds ps pk rd wr en sh ms pa pm bh qa pw wo fi fr mv me) (hp : p < 6) (hi : i < 32) (h1 : st p = 1) (hh : hd' < 10) (hM : tk_M en' sh' ms') (hs : tk_wrt en fr mv (4 * p + i / 8) (i % 8) v en' fr' mv') : tk_J q hd' st ds ps pk rd wr en' sh' ms' pa pm bh qa pw wo fi fr' mv' (upd me (32 * p + i) v) := by
  obtain ⟨hQ, hP, hD, _, hC, hZ, h3⟩ := hJ
  refine ⟨hQ, hP, hD, ⟨hM, hh⟩, fun j hj ha k hk => ?_, fun j hj n1 n2 d hd4 => ?_, h3⟩
  · rw [hs.2 _ _ (by omega) (by omega)]
    by_cases e : 32 * j + k = 32 * p + i
    · have e1 : j = p := by omega
      have e2 : k = i := by omega
      subst e1 e2
      rw [pk_us, if_pos ⟨rfl, rfl⟩]
    · rw [pk_un e, if_neg (by omega)]
      exact hC j hj ha k hk
  · obtain ⟨z1, z2⟩ := hZ j hj n1 n2 d hd4
    have hjp : j ≠ p := by
      intro e
      subst e
      exact n1 h1
    exact ⟨z1, (hs.1 _ (by omega) (by omega)).mpr z2⟩
/-- the end of a process; X's spot of it may stand elsewhere already -/
theorem tk_endp {b p : Nat} {res : Int32} {sx : Nat → Int32} (hp : p < 6) (hal : st p = 1 ∨ st p = 2) (hJ : tk_J q hd st ds ps pk rd wr en sh ms pa pm bh qa pw wo fi fr mv me) (hS : tk_S st sp) (hb : pr ≤ b) (hsx : ∀ j, j ≠ p → sx j = sp j) : ∃ (u : SX) (v : SY), tk_Rel b (fun q st => p ∉ q ∧ st p ≠ 1 ∧ st p ≠ 2) cw u v ∧ (∀ post : SX → Prop, post u → wpX_end post (tk_oi q.head?, tk_oi q.getLast?, nI hd, -1, ex, nI pr, lv, tk_nf (tk_op cw), tk_nf (tk_fA cw), tk_nf (tk_fB cw), fN, tk_nf st, sx, pa, rg, tk_nf ds, bh, tk_nf ps, tk_nf pk, pw, tk_nf rd, tk_nf wr, tk_nf en, tk_nf sh, lt, fr, tk_nf ms, mv, ol) (nI p) res) ∧ (∀ post : SY → Prop, post v → wpY_end post (nI q.length, ex, nI pr, tk_nf cw, fN, tk_nf st, pm, sp, rg, tk_nf ds, me, wo, fi, qa, ol) (nI p) res) := by
  obtain ⟨st', ds', pk', rd', wr', en', sh', ms', pa', pm', bh', qa', ⟨J', F3, F4⟩, X, Y⟩ : ∃ (st' ds' pk' rd' wr' en' sh' ms' : Nat → Nat) (pa' pm' bh' qa' : Nat → Int32), (tk_J (tk_rm p q) hd st' ds' ps pk' rd' wr' en' sh' ms' pa' pm' bh' qa' pw wo fi fr mv me ∧ (∀ j, j ≠ p → st' j = st j ∨ (st j = 3 ∧ st' j = 0)) ∧ (st' p = 0 ∨ st' p = 3)) ∧ (∀ post : SX → Prop, post (tk_oi (tk_rm p q).head?, tk_oi (tk_rm p q).getLast?, nI hd, -1, ex, nI pr, lv, tk_nf (tk_op cw), tk_nf (tk_fA cw), tk_nf (tk_fB cw), fN, tk_nf st', upd sx p res, pa', rg, tk_nf ds', bh', tk_nf ps, tk_nf pk', pw, tk_nf rd', tk_nf wr', tk_nf en', tk_nf sh', lt, fr, tk_nf ms', mv, ol) → wpX_end post (tk_oi q.head?, tk_oi q.getLast?, nI hd, -1, ex, nI pr, lv, tk_nf (tk_op cw), tk_nf (tk_fA cw), tk_nf (tk_fB cw), fN, tk_nf st, sx, pa, rg, tk_nf ds, bh, tk_nf ps, tk_nf pk, pw, tk_nf rd, tk_nf wr, tk_nf en, tk_nf sh, lt, fr, tk_nf ms, mv, ol) (nI p) res) ∧ (∀ post : SY → Prop, post (nI (tk_rm p q).length, ex, nI pr, tk_nf cw, fN, tk_nf st', pm', upd sp p res, rg, tk_nf ds', me, wo, fi, qa', ol) → wpY_end post (nI q.length, ex, nI pr, tk_nf cw, fN, tk_nf st, pm, sp, rg, tk_nf ds, me, wo, fi, qa, ol) (nI p) res) := tk_end hp hal hJ
  have e : upd sx p res = upd sp p res := by
    funext j
    by_cases c : j = p
    · subst c; rw [pk_us, pk_us]
    · rw [pk_un c, pk_un c, hsx j c]
  rw [e] at X
  refine ⟨_, _, tk_in J' ?_ hb ⟨fun z => (tk_rm_m.mp z).2 rfl, by omega, by omega⟩, X, Y⟩
  intro j hj h2
  have c : j ≠ p := by
    intro c
    subst c
    omega
  rw [pk_un c]
  exact hS j hj (by have := F3 j c; omega)
/-- the end of another process -/
theorem tk_endo {b p w s : Nat} {res : Int32} (hp : p < 6) (hw : w < 6) (hwp : w ≠ p) (hal : st w = 1 ∨ st w = 2) (h1 : st p = 1) (hpq : p ∉ q) (hJ : tk_J q hd st ds ps pk rd wr en sh ms pa pm bh qa pw wo fi fr mv me) (hS : tk_S st sp) (hb : pr ≤ b) (hsp : sp p = nI s) : ∃ (st' ds' pk' rd' wr' en' sh' ms' : Nat → Nat) (pa' pm' bh' qa' : Nat → Int32), (tk_J (tk_rm w q) hd st' ds' ps pk' rd' wr' en' sh' ms' pa' pm' bh' qa' pw wo fi fr mv me ∧ tk_S st' (upd (upd sp w res) p (nI (s + 1))) ∧ st' p = 1 ∧ p ∉ tk_rm w q) ∧ (∀ post : SX → Prop, post (tk_oi (tk_rm w q).head?, tk_oi (tk_rm w q).getLast?, nI hd, -1, ex, nI pr, lv, tk_nf (tk_op cw), tk_nf (tk_fA cw), tk_nf (tk_fB cw), fN, tk_nf st', upd (upd sp w res) p (nI (s + 1)), pa', rg, tk_nf ds', bh', tk_nf ps, tk_nf pk', pw, tk_nf rd', tk_nf wr', tk_nf en', tk_nf sh', lt, fr, tk_nf ms', mv, ol) → wpX_end post (tk_oi q.head?, tk_oi q.getLast?, nI hd, -1, ex, nI pr, lv, tk_nf (tk_op cw), tk_nf (tk_fA cw), tk_nf (tk_fB cw), fN, tk_nf st, upd sp p (nI (s + 1)), pa, rg, tk_nf ds, bh, tk_nf ps, tk_nf pk, pw, tk_nf rd, tk_nf wr, tk_nf en, tk_nf sh, lt, fr, tk_nf ms, mv, ol) (nI w) res) ∧ (∀ post : SY → Prop, post (nI (tk_rm w q).length, ex, nI pr, tk_nf cw, fN, tk_nf st', pm', upd sp w res, rg, tk_nf ds', me, wo, fi, qa', ol) → wpY_end post (nI q.length, ex, nI pr, tk_nf cw, fN, tk_nf st, pm, sp, rg, tk_nf ds, me, wo, fi, qa, ol) (nI w) res) := by
  obtain ⟨st', ds', pk', rd', wr', en', sh', ms', pa', pm', bh', qa', ⟨J', F3, F4⟩, X, Y⟩ : ∃ (st' ds' pk' rd' wr' en' sh' ms' : Nat → Nat) (pa' pm' bh' qa' : Nat → Int32), (tk_J (tk_rm w q) hd st' ds' ps pk' rd' wr' en' sh' ms' pa' pm' bh' qa' pw wo fi fr mv me ∧ (∀ j, j ≠ w → st' j = st j ∨ (st j = 3 ∧ st' j = 0)) ∧ (st' w = 0 ∨ st' w = 3)) ∧ (∀ post : SX → Prop, post (tk_oi (tk_rm w q).head?, tk_oi (tk_rm w q).getLast?, nI hd, -1, ex, nI pr, lv, tk_nf (tk_op cw), tk_nf (tk_fA cw), tk_nf (tk_fB cw), fN, tk_nf st', upd (upd sp p (nI (s + 1))) w res, pa', rg, tk_nf ds', bh', tk_nf ps, tk_nf pk', pw, tk_nf rd', tk_nf wr', tk_nf en', tk_nf sh', lt, fr, tk_nf ms', mv, ol) → wpX_end post (tk_oi q.head?, tk_oi q.getLast?, nI hd, -1, ex, nI pr, lv, tk_nf (tk_op cw), tk_nf (tk_fA cw), tk_nf (tk_fB cw), fN, tk_nf st, upd sp p (nI (s + 1)), pa, rg, tk_nf ds, bh, tk_nf ps, tk_nf pk, pw, tk_nf rd, tk_nf wr, tk_nf en, tk_nf sh, lt, fr, tk_nf ms, mv, ol) (nI w) res) ∧ (∀ post : SY → Prop, post (nI (tk_rm w q).length, ex, nI pr, tk_nf cw, fN, tk_nf st', pm', upd sp w res, rg, tk_nf ds', me, wo, fi, qa', ol) → wpY_end post (nI q.length, ex, nI pr, tk_nf cw, fN, tk_nf st, pm, sp, rg, tk_nf ds, me, wo, fi, qa, ol) (nI w) res) := tk_end hw hal hJ
  rw [tk_uc (fun e => hwp e.symm)] at X
  have k := F3 p (fun e => hwp e.symm)
  refine ⟨st', ds', pk', rd', wr', en', sh', ms', pa', pm', bh', qa', ⟨J', ?_, by omega, fun z => hpq (tk_rm_m.mp z).1⟩, X, Y⟩
  apply tk_S_u _ (by omega)
  intro j hj h2
  have c : j ≠ w := by
    intro c
    subst c
    omega
  rw [pk_un c]
  exact hS j hj (by have := F3 j c; omega)
/-- one instruction's outcome -/
def tk_O (b p : Nat) (rr : Int32) (cw : Nat → Nat) (WX : (SX → Prop) → Prop) (WY : (Int32 → SY → Prop) → Prop) : Prop := ∃ (r : Int32) (u : SX) (v : SY), tk_Rel b (fun q st => p ∉ q ∧ ((st p = 1 ∧ r = rr) ∨ (st p ≠ 1 ∧ r = 0))) cw u v ∧ (∀ post : SX → Prop, post u → WX post) ∧ (∀ post : Int32 → SY → Prop, post r v → WY post)
end TKL
end
section
section TKO
variable {q : List Nat} {hd pr b p s : Nat} {ex : Int64} {lv : Int32} {fN sp pa rg bh pw lt fr mv ol : Nat → Int32} {cw st ds ps pk rd wr en sh ms : Nat → Nat}
variable {pm me wo fi qa : Nat → Int32}
theorem tk_e0 (hp : p < 6) (hs : s < 64) (hsp : sp p = nI s) (hcw : cw s < 512) (hJ : tk_J q hd st ds ps pk rd wr en sh ms pa pm bh qa pw wo fi fr mv me) (hS : tk_S st sp) (hb : pr ≤ b) (h1 : st p = 1) (hpq : p ∉ q) (ho : cw s % 32 = 0) : tk_O (b + 1) p (if cw s % 32 = 20 then 0 else 1) cw (fun post => wpX_execute post (tk_oi q.head?, tk_oi q.getLast?, nI hd, -1, ex + 1, nI pr, lv, tk_nf (tk_op cw), tk_nf (tk_fA cw), tk_nf (tk_fB cw), fN, tk_nf st, sp, pa, rg, tk_nf ds, bh, tk_nf ps, tk_nf pk, pw, tk_nf rd, tk_nf wr, tk_nf en, tk_nf sh, lt, fr, tk_nf ms, mv, ol) (nI p) (nI s)) (fun post => wpY_execute post (nI q.length, ex, nI pr, tk_nf cw, fN, tk_nf st, pm, sp, rg, tk_nf ds, me, wo, fi, qa, ol) (nI p)) := by
  obtain ⟨u, v, R, X, Y⟩ : ∃ (u : SX) (v : SY), tk_Rel b (fun q st => p ∉ q ∧ st p ≠ 1 ∧ st p ≠ 2) cw u v ∧ (∀ post : SX → Prop, post u → wpX_end post (tk_oi q.head?, tk_oi q.getLast?, nI hd, -1, ex + 1, nI pr, lv, tk_nf (tk_op cw), tk_nf (tk_fA cw), tk_nf (tk_fB cw), fN, tk_nf st, upd sp p (nI (s + 1)), pa, rg, tk_nf ds, bh, tk_nf ps, tk_nf pk, pw, tk_nf rd, tk_nf wr, tk_nf en, tk_nf sh, lt, fr, tk_nf ms, mv, ol) (nI p) (rg (4 * p + cw s / 32 % 4))) ∧ (∀ post : SY → Prop, post v → wpY_end post (nI q.length, ex + 1, nI pr, tk_nf cw, fN, tk_nf st, pm, sp, rg, tk_nf ds, me, wo, fi, qa, ol) (nI p) (rg (4 * p + cw s / 32 % 4))) := tk_endp hp (Or.inl h1) hJ hS hb (fun j hj => pk_un hj)
  exact ⟨0, u, v, tk_mono R (by omega) (fun q st h => ⟨h.1, Or.inr ⟨h.2.1, rfl⟩⟩), fun post h => tk_xx (o := 0) hp hs ho rfl rfl hcw (fun _ => X post h) (by intros; omega) (by intros; omega) (by intros; omega) (by intros; omega) (by intros; omega) (by intros; omega) (by intros; omega) (by intros; omega) (by intros; omega), fun post h => tk_yx (o := 0) hp hs hsp ho rfl rfl hcw (fun _ => Y _ h) (by intros; omega) (by intros; omega) (by intros; omega)⟩
def tk_vl (o : Nat) (x y n : Int32) : Int32 := if o = 1 then n else if o = 2 then y else if o = 3 then x + y else if o = 4 then x - y else if o = 5 then x * y else if o = 6 then x + n else if y ≤ x then 0 else 1
theorem tk_xcal {post : SX → Prop} {o i j : Nat} {n : Int32} (hi : i < 24) (hj : j < 24) (h1 : 1 ≤ o) (h7 : o ≤ 7) (h : post (tk_oi q.head?, tk_oi q.getLast?, nI hd, -1, ex, nI pr, lv, tk_nf (tk_op cw), tk_nf (tk_fA cw), tk_nf (tk_fB cw), fN, tk_nf st, sp, pa, upd rg i (tk_vl o (rg i) (rg j) n), tk_nf ds, bh, tk_nf ps, tk_nf pk, pw, tk_nf rd, tk_nf wr, tk_nf en, tk_nf sh, lt, fr, tk_nf ms, mv, ol)) : wpX_calculate post (tk_oi q.head?, tk_oi q.getLast?, nI hd, -1, ex, nI pr, lv, tk_nf (tk_op cw), tk_nf (tk_fA cw), tk_nf (tk_fB cw), fN, tk_nf st, sp, pa, rg, tk_nf ds, bh, tk_nf ps, tk_nf pk, pw, tk_nf rd, tk_nf wr, tk_nf en, tk_nf sh, lt, fr, tk_nf ms, mv, ol) (nI o) (nI i) (nI j) n := by
  refine tk_ld i (rg i) hi (tk_ld j (rg j) hj ?_)
  refine pk_eq o 1 (fun e => ?_) (fun n1 => pk_eq o 2 (fun e => ?_) (fun n2 => pk_eq o 3 (fun e => ?_) (fun n3 => pk_eq o 4 (fun e => ?_) (fun n4 => pk_eq o 5 (fun e => ?_) (fun n5 => pk_eq o 6 (fun e => ?_) (fun n6 => br_c (fun z => ?_) (fun z => ?_)))))))
  · subst e; exact tk_st i _ hi h
  · subst e; exact tk_st i _ hi h
  · subst e; exact tk_st i _ hi h
  · subst e; exact tk_st i _ hi h
  · subst e; exact tk_st i _ hi h
  · subst e; exact tk_st i _ hi h
  · obtain rfl : o = 7 := by omega
    rw [show tk_vl 7 (rg i) (rg j) n = 0 from if_pos z] at h
    exact tk_st i _ hi h
  · obtain rfl : o = 7 := by omega
    rw [show tk_vl 7 (rg i) (rg j) n = 1 from if_neg z] at h
    exact tk_st i _ hi h
theorem tk_ysim {post : Int32 → Prop} {o : Nat} {x y n : Int32} (h1 : 1 ≤ o) (h7 : o ≤ 7) (h : post (tk_vl o x y n)) : wpY_simple post (nI q.length, ex, nI pr, tk_nf cw, fN, tk_nf st, pm, sp, rg, tk_nf ds, me, wo, fi, qa, ol) (nI o) x y n := by
  refine pk_eq o 1 (fun e => ?_) (fun n1 => pk_eq o 2 (fun e => ?_) (fun n2 => pk_eq o 3 (fun e => ?_) (fun n3 => pk_eq o 4 (fun e => ?_) (fun n4 => pk_eq o 5 (fun e => ?_) (fun n5 => pk_eq o 6 (fun e => ?_) (fun n6 => br_c (fun z => ?_) (fun z => ?_)))))))
  · subst e; exact h
  · subst e; exact h
  · subst e; exact h
  · subst e; exact h
  · subst e; exact h
  · subst e; exact h
  · obtain rfl : o = 7 := by omega
    rw [show tk_vl 7 x y n = 0 from if_pos z] at h
    exact h
  · obtain rfl : o = 7 := by omega
    rw [show tk_vl 7 x y n = 1 from if_neg z] at h
    exact h
theorem tk_e7 (hp : p < 6) (hs : s < 64) (hsp : sp p = nI s) (hcw : cw s < 512) (hJ : tk_J q hd st ds ps pk rd wr en sh ms pa pm bh qa pw wo fi fr mv me) (hS : tk_S st sp) (hb : pr ≤ b) (h1 : st p = 1) (hpq : p ∉ q) (ho1 : 1 ≤ cw s % 32) (ho7 : cw s % 32 ≤ 7) : tk_O (b + 1) p (if cw s % 32 = 20 then 0 else 1) cw (fun post => wpX_execute post (tk_oi q.head?, tk_oi q.getLast?, nI hd, -1, ex + 1, nI pr, lv, tk_nf (tk_op cw), tk_nf (tk_fA cw), tk_nf (tk_fB cw), fN, tk_nf st, sp, pa, rg, tk_nf ds, bh, tk_nf ps, tk_nf pk, pw, tk_nf rd, tk_nf wr, tk_nf en, tk_nf sh, lt, fr, tk_nf ms, mv, ol) (nI p) (nI s)) (fun post => wpY_execute post (nI q.length, ex, nI pr, tk_nf cw, fN, tk_nf st, pm, sp, rg, tk_nf ds, me, wo, fi, qa, ol) (nI p)) := by
  have ha : cw s / 32 % 4 < 4 := by omega
  have hbb : cw s / 128 < 4 := by omega
  refine ⟨1, (tk_oi q.head?, tk_oi q.getLast?, nI hd, -1, ex + 1, nI pr, lv, tk_nf (tk_op cw), tk_nf (tk_fA cw), tk_nf (tk_fB cw), fN, tk_nf st, upd sp p (nI (s + 1)), pa, upd rg (4 * p + cw s / 32 % 4) (tk_vl (cw s % 32) (rg (4 * p + cw s / 32 % 4)) (rg (4 * p + cw s / 128)) (fN s)), tk_nf ds, bh, tk_nf ps, tk_nf pk, pw, tk_nf rd, tk_nf wr, tk_nf en, tk_nf sh, lt, fr, tk_nf ms, mv, ol), (nI q.length, ex + 1, nI pr, tk_nf cw, fN, tk_nf st, pm, upd sp p (nI (s + 1)), upd rg (4 * p + cw s / 32 % 4) (tk_vl (cw s % 32) (rg (4 * p + cw s / 32 % 4)) (rg (4 * p + cw s / 128)) (fN s)), tk_nf ds, me, wo, fi, qa, ol), tk_in hJ (tk_S_u hS (by omega)) (by omega) ⟨hpq, Or.inl ⟨h1, ?_⟩⟩, fun post h => tk_xx hp hs rfl rfl rfl hcw (by intros; omega) (fun l1 l2 => tk_xcal (by omega) (by omega) l1 l2 h) (by intros; omega) (by intros; omega) (by intros; omega) (by intros; omega) (by intros; omega) (by intros; omega) (by intros; omega) (by intros; omega), fun post h => tk_yx hp hs hsp rfl rfl rfl hcw (by intros; omega) (by intros; omega) (by intros; omega) (fun _ _ => pk_eq (cw s % 32) 8 (by intros; omega) (fun _ => pk_eq (cw s % 32) 9 (by intros; omega) (fun _ => pk_lt 7 (cw s % 32) (by intros; omega) (fun _ => tk_ysim ho1 ho7 (tk_st (4 * p + cw s / 32 % 4) _ (by omega) (tk_y330 hp hsp (by omega) ?_))))))⟩
  · rw [if_neg (by omega)]
  · rw [if_neg (by omega)]
    exact h
theorem tk_r32 (x : Int32) : x < 0 ∨ (¬ x < 0 ∧ 31 < x) ∨ ∃ j : Nat, j < 32 ∧ x = nI j := by
  by_cases h : x < 0
  · exact Or.inl h
  · obtain ⟨j, hj, rfl⟩ := nI_of h
    by_cases c : j < 32
    · exact Or.inr (Or.inr ⟨j, c, rfl⟩)
    · exact Or.inr (Or.inl ⟨h, nI_lt (a := 31) (by omega) hj⟩)
theorem tk_e8o (hp : p < 6) (hs : s < 64) (hsp : sp p = nI s) (hcw : cw s < 512) (hJ : tk_J q hd st ds ps pk rd wr en sh ms pa pm bh qa pw wo fi fr mv me) (hS : tk_S st sp) (hb : pr ≤ b) (h1 : st p = 1) (hpq : p ∉ q) (o : Nat) (ho : cw s % 32 = o) (ho8 : o = 8 ∨ o = 9) (hx : rg (4 * p + cw s / 128) + fN s < 0 ∨ (¬ rg (4 * p + cw s / 128) + fN s < 0 ∧ 31 < rg (4 * p + cw s / 128) + fN s)) : tk_O (b + 1) p (if cw s % 32 = 20 then 0 else 1) cw (fun post => wpX_execute post (tk_oi q.head?, tk_oi q.getLast?, nI hd, -1, ex + 1, nI pr, lv, tk_nf (tk_op cw), tk_nf (tk_fA cw), tk_nf (tk_fB cw), fN, tk_nf st, sp, pa, rg, tk_nf ds, bh, tk_nf ps, tk_nf pk, pw, tk_nf rd, tk_nf wr, tk_nf en, tk_nf sh, lt, fr, tk_nf ms, mv, ol) (nI p) (nI s)) (fun post => wpY_execute post (nI q.length, ex, nI pr, tk_nf cw, fN, tk_nf st, pm, sp, rg, tk_nf ds, me, wo, fi, qa, ol) (nI p)) := by
  obtain ⟨u, v, R, X, Y⟩ : ∃ (u : SX) (v : SY), tk_Rel b (fun q st => p ∉ q ∧ st p ≠ 1 ∧ st p ≠ 2) cw u v ∧ (∀ post : SX → Prop, post u → wpX_end post (tk_oi q.head?, tk_oi q.getLast?, nI hd, -1, ex + 1, nI pr, lv, tk_nf (tk_op cw), tk_nf (tk_fA cw), tk_nf (tk_fB cw), fN, tk_nf st, upd sp p (nI (s + 1)), pa, rg, tk_nf ds, bh, tk_nf ps, tk_nf pk, pw, tk_nf rd, tk_nf wr, tk_nf en, tk_nf sh, lt, fr, tk_nf ms, mv, ol) (nI p) (-1)) ∧ (∀ post : SY → Prop, post v → wpY_end post (nI q.length, ex + 1, nI pr, tk_nf cw, fN, tk_nf st, pm, sp, rg, tk_nf ds, me, wo, fi, qa, ol) (nI p) (-1)) := tk_endp hp (Or.inl h1) hJ hS hb (fun j hj => pk_un hj)
  refine ⟨0, u, v, tk_mono R (by omega) (fun q st h => ⟨h.1, Or.inr ⟨h.2.1, rfl⟩⟩), fun post h => tk_xx (o := o) hp hs ho rfl rfl hcw (by intros; omega) (by intros; omega) (fun _ => ?_) (by intros; omega) (by intros; omega) (by intros; omega) (by intros; omega) (by intros; omega) (by intros; omega) (by intros; omega), fun post h => tk_yx (o := o) hp hs hsp ho rfl rfl hcw (by intros; omega) (by intros; omega) (fun _ => tk_yin ?_) (by intros; omega)⟩
  · rcases hx with hx | ⟨hx, hx2⟩
    · exact br_t hx (X post h)
    · exact br_f hx (br_f (Int32.not_le.mpr hx2) (X post h))
  · rcases hx with hx | ⟨hx, hx2⟩
    · rw [if_pos hx]
      exact br_t rfl (Y _ h)
    · rw [if_neg hx, if_pos hx2]
      exact br_t rfl (Y _ h)
theorem tk_ymx {p j : Nat} {x n : Int32} (h : x + n = nI j) : ((32 * nI p) + x) + n = nI (32 * p + j) := by rw [Int32.add_assoc, h, tk_i32]
theorem tk_e8 (hp : p < 6) (hs : s < 64) (hsp : sp p = nI s) (hcw : cw s < 512) (hJ : tk_J q hd st ds ps pk rd wr en sh ms pa pm bh qa pw wo fi fr mv me) (hS : tk_S st sp) (hb : pr ≤ b) (h1 : st p = 1) (hpq : p ∉ q) (ho : cw s % 32 = 8) : tk_O (b + 1) p (if cw s % 32 = 20 then 0 else 1) cw (fun post => wpX_execute post (tk_oi q.head?, tk_oi q.getLast?, nI hd, -1, ex + 1, nI pr, lv, tk_nf (tk_op cw), tk_nf (tk_fA cw), tk_nf (tk_fB cw), fN, tk_nf st, sp, pa, rg, tk_nf ds, bh, tk_nf ps, tk_nf pk, pw, tk_nf rd, tk_nf wr, tk_nf en, tk_nf sh, lt, fr, tk_nf ms, mv, ol) (nI p) (nI s)) (fun post => wpY_execute post (nI q.length, ex, nI pr, tk_nf cw, fN, tk_nf st, pm, sp, rg, tk_nf ds, me, wo, fi, qa, ol) (nI p)) := by
  have ha : cw s / 32 % 4 < 4 := by omega
  have hbb : cw s / 128 < 4 := by omega
  rcases tk_r32 (rg (4 * p + cw s / 128) + fN s) with hx | hx | ⟨j, hj, e⟩
  · exact tk_e8o hp hs hsp hcw hJ hS hb h1 hpq 8 ho (Or.inl rfl) (Or.inl hx)
  · exact tk_e8o hp hs hsp hcw hJ hS hb h1 hpq 8 ho (Or.inl rfl) (Or.inr hx)
  · obtain ⟨hd', en', sh', ms', lt', fr', mv', ⟨g1, g2, g3⟩, X⟩ : ∃ (hd' : Nat) (en' sh' ms' : Nat → Nat) (lt' fr' mv' : Nat → Int32), (hd' < 10 ∧ tk_M en' sh' ms' ∧ tk_same en fr mv en' fr' mv') ∧ ∀ post : Int32 → SX → Prop, post (tk_ct en fr mv (4 * p + j / 8) (j % 8)) (tk_oi q.head?, tk_oi q.getLast?, nI hd', -1, ex + 1, nI pr, lv, tk_nf (tk_op cw), tk_nf (tk_fA cw), tk_nf (tk_fB cw), fN, tk_nf st, upd sp p (nI (s + 1)), pa, rg, tk_nf ds, bh, tk_nf ps, tk_nf pk, pw, tk_nf rd, tk_nf wr, tk_nf en', tk_nf sh', lt', fr', tk_nf ms', mv', ol) → wpX_readWord post (tk_oi q.head?, tk_oi q.getLast?, nI hd, -1, ex + 1, nI pr, lv, tk_nf (tk_op cw), tk_nf (tk_fA cw), tk_nf (tk_fB cw), fN, tk_nf st, upd sp p (nI (s + 1)), pa, rg, tk_nf ds, bh, tk_nf ps, tk_nf pk, pw, tk_nf rd, tk_nf wr, tk_nf en, tk_nf sh, lt, fr, tk_nf ms, mv, ol) (nI p) (nI j) := tk_rw hJ.2.2.2.1.1 hJ.2.2.2.1.2 hp hj
    have hm : me (32 * p + j) = tk_ct en fr mv (4 * p + j / 8) (j % 8) := hJ.2.2.2.2.1 p hp (Or.inl h1) j hj
    rw [← hm] at X
    have h31 : nI j ≤ 31 := nI_le (b := 31) (by omega) (by decide)
    refine ⟨1, (tk_oi q.head?, tk_oi q.getLast?, nI hd', -1, ex + 1, nI pr, lv, tk_nf (tk_op cw), tk_nf (tk_fA cw), tk_nf (tk_fB cw), fN, tk_nf st, upd sp p (nI (s + 1)), pa, upd rg (4 * p + cw s / 32 % 4) (me (32 * p + j)), tk_nf ds, bh, tk_nf ps, tk_nf pk, pw, tk_nf rd, tk_nf wr, tk_nf en', tk_nf sh', lt', fr', tk_nf ms', mv', ol), (nI q.length, ex + 1, nI pr, tk_nf cw, fN, tk_nf st, pm, upd sp p (nI (s + 1)), upd rg (4 * p + cw s / 32 % 4) (me (32 * p + j)), tk_nf ds, me, wo, fi, qa, ol), tk_in (tk_J_m hJ g1 g2 g3) (tk_S_u hS (by omega)) (by omega) ⟨hpq, Or.inl ⟨h1, by rw [ho]; rfl⟩⟩, fun post h => tk_xx (o := 8) hp hs ho rfl rfl hcw (by intros; omega) (by intros; omega) (fun _ => ?_) (by intros; omega) (by intros; omega) (by intros; omega) (by intros; omega) (by intros; omega) (by intros; omega) (by intros; omega), fun post h => tk_yx (o := 8) hp hs hsp ho rfl rfl hcw (by intros; omega) (by intros; omega) (fun _ => tk_yin ?_) (by intros; omega)⟩
    · rw [e]
      exact br_f (nI_pos (by omega)) (br_t h31 (br_t rfl (X _ (tk_st (4 * p + cw s / 32 % 4) _ (by omega) h))))
    · rw [e, if_neg (nI_pos (by omega)), if_neg (Int32.not_lt.mpr h31)]
      exact br_f (by decide) (br_t rfl (And.intro (pk_in (32 * p + j) 192 (by omega) (tk_ymx e)) (tk_st (4 * p + cw s / 32 % 4) (me (32 * p + j)) (by omega) (tk_y330 hp hsp (by omega) h) rfl (tk_ri (32 * p + j) (tk_ymx e)))))
theorem tk_e9 (hp : p < 6) (hs : s < 64) (hsp : sp p = nI s) (hcw : cw s < 512) (hJ : tk_J q hd st ds ps pk rd wr en sh ms pa pm bh qa pw wo fi fr mv me) (hS : tk_S st sp) (hb : pr ≤ b) (h1 : st p = 1) (hpq : p ∉ q) (ho : cw s % 32 = 9) : tk_O (b + 1) p (if cw s % 32 = 20 then 0 else 1) cw (fun post => wpX_execute post (tk_oi q.head?, tk_oi q.getLast?, nI hd, -1, ex + 1, nI pr, lv, tk_nf (tk_op cw), tk_nf (tk_fA cw), tk_nf (tk_fB cw), fN, tk_nf st, sp, pa, rg, tk_nf ds, bh, tk_nf ps, tk_nf pk, pw, tk_nf rd, tk_nf wr, tk_nf en, tk_nf sh, lt, fr, tk_nf ms, mv, ol) (nI p) (nI s)) (fun post => wpY_execute post (nI q.length, ex, nI pr, tk_nf cw, fN, tk_nf st, pm, sp, rg, tk_nf ds, me, wo, fi, qa, ol) (nI p)) := by
  have ha : cw s / 32 % 4 < 4 := by omega
  have hbb : cw s / 128 < 4 := by omega
  rcases tk_r32 (rg (4 * p + cw s / 128) + fN s) with hx | hx | ⟨j, hj, e⟩
  · exact tk_e8o hp hs hsp hcw hJ hS hb h1 hpq 9 ho (Or.inr rfl) (Or.inl hx)
  · exact tk_e8o hp hs hsp hcw hJ hS hb h1 hpq 9 ho (Or.inr rfl) (Or.inr hx)
  · obtain ⟨hd', en', sh', ms', lt', fr', mv', ⟨g1, g2, g3⟩, X⟩ : ∃ (hd' : Nat) (en' sh' ms' : Nat → Nat) (lt' fr' mv' : Nat → Int32), (hd' < 10 ∧ tk_M en' sh' ms' ∧ tk_wrt en fr mv (4 * p + j / 8) (j % 8) (rg (4 * p + cw s / 32 % 4)) en' fr' mv') ∧ ∀ post : SX → Prop, post (tk_oi q.head?, tk_oi q.getLast?, nI hd', -1, ex + 1, nI pr, lv, tk_nf (tk_op cw), tk_nf (tk_fA cw), tk_nf (tk_fB cw), fN, tk_nf st, upd sp p (nI (s + 1)), pa, rg, tk_nf ds, bh, tk_nf ps, tk_nf pk, pw, tk_nf rd, tk_nf wr, tk_nf en', tk_nf sh', lt', fr', tk_nf ms', mv', ol) → wpX_writeWord post (tk_oi q.head?, tk_oi q.getLast?, nI hd, -1, ex + 1, nI pr, lv, tk_nf (tk_op cw), tk_nf (tk_fA cw), tk_nf (tk_fB cw), fN, tk_nf st, upd sp p (nI (s + 1)), pa, rg, tk_nf ds, bh, tk_nf ps, tk_nf pk, pw, tk_nf rd, tk_nf wr, tk_nf en, tk_nf sh, lt, fr, tk_nf ms, mv, ol) (nI p) (nI j) (rg (4 * p + cw s / 32 % 4)) := tk_wr hJ.2.2.2.1.1 hJ.2.2.2.1.2 hp hj rfl
    have h31 : nI j ≤ 31 := nI_le (b := 31) (by omega) (by decide)
    refine ⟨1, (tk_oi q.head?, tk_oi q.getLast?, nI hd', -1, ex + 1, nI pr, lv, tk_nf (tk_op cw), tk_nf (tk_fA cw), tk_nf (tk_fB cw), fN, tk_nf st, upd sp p (nI (s + 1)), pa, rg, tk_nf ds, bh, tk_nf ps, tk_nf pk, pw, tk_nf rd, tk_nf wr, tk_nf en', tk_nf sh', lt', fr', tk_nf ms', mv', ol), (nI q.length, ex + 1, nI pr, tk_nf cw, fN, tk_nf st, pm, upd sp p (nI (s + 1)), rg, tk_nf ds, upd me (32 * p + j) (rg (4 * p + cw s / 32 % 4)), wo, fi, qa, ol), tk_in (tk_J_w hJ hp hj h1 g1 g2 g3) (tk_S_u hS (by omega)) (by omega) ⟨hpq, Or.inl ⟨h1, by rw [ho]; rfl⟩⟩, fun post h => tk_xx (o := 9) hp hs ho rfl rfl hcw (by intros; omega) (by intros; omega) (fun _ => ?_) (by intros; omega) (by intros; omega) (by intros; omega) (by intros; omega) (by intros; omega) (by intros; omega) (by intros; omega), fun post h => tk_yx (o := 9) hp hs hsp ho rfl rfl hcw (by intros; omega) (by intros; omega) (fun _ => tk_yin ?_) (by intros; omega)⟩
    · rw [e]
      refine br_f (nI_pos (by omega)) (br_t h31 (br_f (by decide) (And.intro (pk_in (4 * p + cw s / 32 % 4) 24 (by omega)) ?_)))
      rw [tk_ri (a := rg) (4 * p + cw s / 32 % 4)]
      exact X _ h
    · rw [e, if_neg (nI_pos (by omega)), if_neg (Int32.not_lt.mpr h31)]
      exact br_f (by decide) (br_f (by decide) (br_t rfl (tk_st (32 * p + j) (rg (4 * p + cw s / 32 % 4)) (by omega) (tk_y330 hp hsp (by omega) h) (tk_ymx e))))
theorem tk_e12 (hp : p < 6) (hs : s < 64) (hsp : sp p = nI s) (hcw : cw s < 512) (hJ : tk_J q hd st ds ps pk rd wr en sh ms pa pm bh qa pw wo fi fr mv me) (hS : tk_S st sp) (hb : pr ≤ b) (h1 : st p = 1) (hpq : p ∉ q) (ho1 : 10 ≤ cw s % 32) (ho2 : cw s % 32 ≤ 12) : tk_O (b + 1) p (if cw s % 32 = 20 then 0 else 1) cw (fun post => wpX_execute post (tk_oi q.head?, tk_oi q.getLast?, nI hd, -1, ex + 1, nI pr, lv, tk_nf (tk_op cw), tk_nf (tk_fA cw), tk_nf (tk_fB cw), fN, tk_nf st, sp, pa, rg, tk_nf ds, bh, tk_nf ps, tk_nf pk, pw, tk_nf rd, tk_nf wr, tk_nf en, tk_nf sh, lt, fr, tk_nf ms, mv, ol) (nI p) (nI s)) (fun post => wpY_execute post (nI q.length, ex, nI pr, tk_nf cw, fN, tk_nf st, pm, sp, rg, tk_nf ds, me, wo, fi, qa, ol) (nI p)) := by
  have rr : (if cw s % 32 = 20 then (0 : Int32) else 1) = 1 := if_neg (by omega)
  by_cases c : cw s % 32 = 11 ∨ (rg (4 * p + cw s / 32 % 4) = 0 ↔ cw s % 32 = 10)
  · refine ⟨1, (tk_oi q.head?, tk_oi q.getLast?, nI hd, -1, ex + 1, nI pr, lv, tk_nf (tk_op cw), tk_nf (tk_fA cw), tk_nf (tk_fB cw), fN, tk_nf st, upd sp p (fN s), pa, rg, tk_nf ds, bh, tk_nf ps, tk_nf pk, pw, tk_nf rd, tk_nf wr, tk_nf en, tk_nf sh, lt, fr, tk_nf ms, mv, ol), (nI q.length, ex + 1, nI pr, tk_nf cw, fN, tk_nf st, pm, upd sp p (fN s), rg, tk_nf ds, me, wo, fi, qa, ol), tk_in hJ (tk_S_u hS (by omega)) (by omega) ⟨hpq, Or.inl ⟨h1, rr.symm⟩⟩, fun post h => tk_xx hp hs rfl rfl rfl hcw (by intros; omega) (by intros; omega) (by intros; omega) (fun _ _ => ⟨fun _ => ?_, fun w => absurd c w⟩) (by intros; omega) (by intros; omega) (by intros; omega) (by intros; omega) (by intros; omega) (by intros; omega), fun post h => tk_yx hp hs hsp rfl rfl rfl hcw (by intros; omega) (fun _ _ => ⟨fun _ => h, fun w => absurd c w⟩) (by intros; omega) (by intros; omega)⟩
    rw [tk_uu]
    exact h
  · exact ⟨1, (tk_oi q.head?, tk_oi q.getLast?, nI hd, -1, ex + 1, nI pr, lv, tk_nf (tk_op cw), tk_nf (tk_fA cw), tk_nf (tk_fB cw), fN, tk_nf st, upd sp p (nI (s + 1)), pa, rg, tk_nf ds, bh, tk_nf ps, tk_nf pk, pw, tk_nf rd, tk_nf wr, tk_nf en, tk_nf sh, lt, fr, tk_nf ms, mv, ol), (nI q.length, ex + 1, nI pr, tk_nf cw, fN, tk_nf st, pm, upd sp p (nI (s + 1)), rg, tk_nf ds, me, wo, fi, qa, ol), tk_in hJ (tk_S_u hS (by omega)) (by omega) ⟨hpq, Or.inl ⟨h1, rr.symm⟩⟩, fun post h => tk_xx hp hs rfl rfl rfl hcw (by intros; omega) (by intros; omega) (by intros; omega) (fun _ _ => ⟨fun w => absurd w c, fun _ => h⟩) (by intros; omega) (by intros; omega) (by intros; omega) (by intros; omega) (by intros; omega) (by intros; omega), fun post h => tk_yx hp hs hsp rfl rfl rfl hcw (by intros; omega) (fun _ _ => ⟨fun w => absurd w c, fun _ => h⟩) (by intros; omega) (by intros; omega)⟩
end TKO
end
section
section TKA
variable {fq lq hd pn : Int32} {ex : Int64} {pr lv : Int32} {op fA fB fN sp pa rg ds bh ps pk pw rd wr en sh lt fr ms mv ol : Nat → Int32} {st : Nat → Nat}
variable {qn py : Int32} {ey : Int64} {cw pm me wo fi qa fy sy gy dy oy : Nat → Int32}
/-- whether a number is a live process, for both -/
theorem tk_alive (h3 : ∀ j, st j ≤ 3) (x : Int32) : ∃ r : Int32, ((r = 1 ∧ ∃ w, w < 6 ∧ x = nI w ∧ (st w = 1 ∨ st w = 2)) ∨ r = 0) ∧ (∀ post : Int32 → Prop, post r → wpX_isAlive post (fq, lq, hd, pn, ex, pr, lv, op, fA, fB, fN, tk_nf st, sp, pa, rg, ds, bh, ps, pk, pw, rd, wr, en, sh, lt, fr, ms, mv, ol) x) ∧ (∀ post : Int32 → Prop, post r → wpY_isLive post (qn, ey, py, cw, fy, tk_nf st, pm, sy, gy, dy, me, wo, fi, qa, oy) x) := by
  rcases pk_ix x (n := 6) (by decide) with h | h | ⟨j, hj, rfl⟩
  · refine ⟨0, Or.inr rfl, fun post hp => ?_, fun post hp => ?_⟩
    · exact br_t h (br_t rfl hp)
    · unfold wpY_isLive
      refine tk_yin ?_
      rw [if_pos h]
      exact br_t rfl hp
  · have h0 : ¬ x < 0 := fun z => absurd (Int32.lt_of_le_of_lt h z) (by decide)
    have h5 : (5 : Int32) < x := by
      obtain ⟨j, hj, rfl⟩ := nI_of h0
      rw [nI_leI (by omega) hj] at h
      exact nI_lt (a := 5) (by omega) hj
    refine ⟨0, Or.inr rfl, fun post hp => ?_, fun post hp => ?_⟩
    · exact br_f h0 (br_t h (br_t rfl hp))
    · unfold wpY_isLive
      refine tk_yin ?_
      rw [if_neg h0, if_pos h5]
      exact br_t rfl hp
  · have h0 : ¬ nI j < 0 := nI_pos (by omega)
    have h6 : ¬ (6 : Int32) ≤ nI j := nI_ge (b := 6) hj (by decide)
    have h5 : ¬ (5 : Int32) < nI j := nI_nlt (a := 5) (b := j) (by omega) (by omega)
    have hi : vp_in (nI j) 6 := vp_in_nI hj (by decide)
    have hs := h3 j
    have K : ∀ (r : Int32) (post : Int32 → Prop), post r → ((r = 1 ∧ (st j = 1 ∨ st j = 2)) ∨ (r = 0 ∧ st j ≠ 1 ∧ st j ≠ 2)) → (vp_in (nI j) 6 ∧ ((tk_nf st (nI j).toNatClampNeg = 1 → post 1) ∧ (¬ tk_nf st (nI j).toNatClampNeg = 1 → vp_in (nI j) 6 ∧ ((tk_nf st (nI j).toNatClampNeg = 2 → post 1) ∧ (¬ tk_nf st (nI j).toNatClampNeg = 2 → post 0))))) := by
      intro r post hp hr
      refine And.intro hi (pk_eq (st j) 1 (fun e => ?_) (fun n1 => And.intro hi (pk_eq (st j) 2 (fun e => ?_) (fun n2 => ?_) (tk_rn st j))) (tk_rn st j))
      · rcases hr with ⟨hr, _⟩ | hr
        · rw [← hr]; exact hp
        · omega
      · rcases hr with ⟨hr, _⟩ | hr
        · rw [← hr]; exact hp
        · omega
      · rcases hr with ⟨_, hr⟩ | ⟨hr, _⟩
        · omega
        · rw [← hr]; exact hp
    have X : ∀ (r : Int32) (post : Int32 → Prop), post r → ((r = 1 ∧ (st j = 1 ∨ st j = 2)) ∨ (r = 0 ∧ st j ≠ 1 ∧ st j ≠ 2)) → wpX_isAlive post (fq, lq, hd, pn, ex, pr, lv, op, fA, fB, fN, tk_nf st, sp, pa, rg, ds, bh, ps, pk, pw, rd, wr, en, sh, lt, fr, ms, mv, ol) (nI j) := fun r post hp hr => br_f h0 (br_f h6 (br_f (by decide) (K r post hp hr)))
    have Y : ∀ (r : Int32) (post : Int32 → Prop), post r → ((r = 1 ∧ (st j = 1 ∨ st j = 2)) ∨ (r = 0 ∧ st j ≠ 1 ∧ st j ≠ 2)) → wpY_isLive post (qn, ey, py, cw, fy, tk_nf st, pm, sy, gy, dy, me, wo, fi, qa, oy) (nI j) := by
      intro r post hp hr
      unfold wpY_isLive
      refine tk_yin ?_
      rw [if_neg h0, if_neg h5]
      exact br_f (by decide) (K r post hp hr)
    by_cases c : st j = 1 ∨ st j = 2
    · exact ⟨1, Or.inl ⟨rfl, j, hj, rfl, c⟩, fun post hp => X 1 post hp (Or.inl ⟨rfl, c⟩), fun post hp => Y 1 post hp (Or.inl ⟨rfl, c⟩)⟩
    · exact ⟨0, Or.inr rfl, fun post hp => X 0 post hp (Or.inr ⟨rfl, by omega, by omega⟩), fun post hp => Y 0 post hp (Or.inr ⟨rfl, by omega, by omega⟩)⟩
end TKA
section TKO2
variable {q : List Nat} {hd pr b p s : Nat} {ex : Int64} {lv : Int32} {fN sp pa rg bh pw lt fr mv ol : Nat → Int32} {cw st ds ps pk rd wr en sh ms : Nat → Nat}
variable {pm me wo fi qa : Nat → Int32}
theorem tk_e15 (hp : p < 6) (hs : s < 64) (hsp : sp p = nI s) (hcw : cw s < 512) (hJ : tk_J q hd st ds ps pk rd wr en sh ms pa pm bh qa pw wo fi fr mv me) (hS : tk_S st sp) (hb : pr ≤ b) (h1 : st p = 1) (hpq : p ∉ q) (ho : cw s % 32 = 15) : tk_O (b + 1) p (if cw s % 32 = 20 then 0 else 1) cw (fun post => wpX_execute post (tk_oi q.head?, tk_oi q.getLast?, nI hd, -1, ex + 1, nI pr, lv, tk_nf (tk_op cw), tk_nf (tk_fA cw), tk_nf (tk_fB cw), fN, tk_nf st, sp, pa, rg, tk_nf ds, bh, tk_nf ps, tk_nf pk, pw, tk_nf rd, tk_nf wr, tk_nf en, tk_nf sh, lt, fr, tk_nf ms, mv, ol) (nI p) (nI s)) (fun post => wpY_execute post (nI q.length, ex, nI pr, tk_nf cw, fN, tk_nf st, pm, sp, rg, tk_nf ds, me, wo, fi, qa, ol) (nI p)) := by
  have ha : cw s / 32 % 4 < 4 := by omega
  have hbb : cw s / 128 < 4 := by omega
  obtain ⟨ds', rd', wr', ps', pk', rg', fi', ⟨D', E'⟩, X, Y⟩ : ∃ (ds' rd' wr' ps' pk' : Nat → Nat) (rg' fi' : Nat → Int32), (tk_D ds' rd' wr' ps' pk' pw wo fi' ∧ ∀ j, j / 4 ≠ p → ds' j = ds j) ∧ (∀ post : SX → Prop, post (tk_oi q.head?, tk_oi q.getLast?, nI hd, -1, ex + 1, nI pr, lv, tk_nf (tk_op cw), tk_nf (tk_fA cw), tk_nf (tk_fB cw), fN, tk_nf st, upd sp p (nI (s + 1)), pa, rg', tk_nf ds', bh, tk_nf ps', tk_nf pk', pw, tk_nf rd', tk_nf wr', tk_nf en, tk_nf sh, lt, fr, tk_nf ms, mv, ol) → wpX_makePipe post (tk_oi q.head?, tk_oi q.getLast?, nI hd, -1, ex + 1, nI pr, lv, tk_nf (tk_op cw), tk_nf (tk_fA cw), tk_nf (tk_fB cw), fN, tk_nf st, upd sp p (nI (s + 1)), pa, rg, tk_nf ds, bh, tk_nf ps, tk_nf pk, pw, tk_nf rd, tk_nf wr, tk_nf en, tk_nf sh, lt, fr, tk_nf ms, mv, ol) (nI p) (nI (cw s / 32 % 4)) (nI (cw s / 128))) ∧ (∀ post : SY → Prop, post (nI q.length, ex + 1, nI pr, tk_nf cw, fN, tk_nf st, pm, sp, rg', tk_nf ds', me, wo, fi', qa, ol) → wpY_makePipe post (nI q.length, ex + 1, nI pr, tk_nf cw, fN, tk_nf st, pm, sp, rg, tk_nf ds, me, wo, fi, qa, ol) (nI p) (nI (cw s / 32 % 4)) (nI (cw s / 128))) := tk_mk hp ha hbb hJ.2.2.1
  exact ⟨1, (tk_oi q.head?, tk_oi q.getLast?, nI hd, -1, ex + 1, nI pr, lv, tk_nf (tk_op cw), tk_nf (tk_fA cw), tk_nf (tk_fB cw), fN, tk_nf st, upd sp p (nI (s + 1)), pa, rg', tk_nf ds', bh, tk_nf ps', tk_nf pk', pw, tk_nf rd', tk_nf wr', tk_nf en, tk_nf sh, lt, fr, tk_nf ms, mv, ol), (nI q.length, ex + 1, nI pr, tk_nf cw, fN, tk_nf st, pm, upd sp p (nI (s + 1)), rg', tk_nf ds', me, wo, fi', qa, ol), tk_in (tk_J_D h1 hJ D' E') (tk_S_u hS (by omega)) (by omega) ⟨hpq, Or.inl ⟨h1, by rw [ho]; rfl⟩⟩, fun post h => tk_xx (o := 15) hp hs ho rfl rfl hcw (by intros; omega) (by intros; omega) (by intros; omega) (by intros; omega) (by intros; omega) (by intros; omega) (fun _ => X _ h) (by intros; omega) (by intros; omega) (by intros; omega), fun post h => tk_yx (o := 15) hp hs hsp ho rfl rfl hcw (by intros; omega) (by intros; omega) (by intros; omega) (fun _ _ => tk_y231 (by omega) (by omega) (tk_yc hp ha hbb (by omega) (by intros; omega) (fun _ => Y _ (br_f (by decide) (tk_y330 hp hsp (by omega) h))) (by intros; omega) (by intros; omega) (by intros; omega)))⟩
theorem tk_e14 (hp : p < 6) (hs : s < 64) (hsp : sp p = nI s) (hcw : cw s < 512) (hJ : tk_J q hd st ds ps pk rd wr en sh ms pa pm bh qa pw wo fi fr mv me) (hS : tk_S st sp) (hb : pr ≤ b) (h1 : st p = 1) (hpq : p ∉ q) (ho : cw s % 32 = 14) : tk_O (b + 1) p (if cw s % 32 = 20 then 0 else 1) cw (fun post => wpX_execute post (tk_oi q.head?, tk_oi q.getLast?, nI hd, -1, ex + 1, nI pr, lv, tk_nf (tk_op cw), tk_nf (tk_fA cw), tk_nf (tk_fB cw), fN, tk_nf st, sp, pa, rg, tk_nf ds, bh, tk_nf ps, tk_nf pk, pw, tk_nf rd, tk_nf wr, tk_nf en, tk_nf sh, lt, fr, tk_nf ms, mv, ol) (nI p) (nI s)) (fun post => wpY_execute post (nI q.length, ex, nI pr, tk_nf cw, fN, tk_nf st, pm, sp, rg, tk_nf ds, me, wo, fi, qa, ol) (nI p)) := by
  have ha : cw s / 32 % 4 < 4 := by omega
  have hbb : cw s / 128 < 4 := by omega
  obtain ⟨rh, rx, ry, c, X1, X2, Y1⟩ : ∃ rh rx ry : Int32, ((rh = 1 ∧ ∃ j, j < 6 ∧ rx = nI j ∧ ry = nI j ∧ st j = 3 ∧ pa j = nI p) ∨ (rh = 1 ∧ rx = -1 ∧ ry = -1) ∨ (rh = 0 ∧ rx = -1 ∧ ry = -2)) ∧ (∀ post : Int32 → Prop, post rh → wpX_hasChild post (tk_oi q.head?, tk_oi q.getLast?, nI hd, -1, ex + 1, nI pr, lv, tk_nf (tk_op cw), tk_nf (tk_fA cw), tk_nf (tk_fB cw), fN, tk_nf st, upd sp p (nI (s + 1)), pa, rg, tk_nf ds, bh, tk_nf ps, tk_nf pk, pw, tk_nf rd, tk_nf wr, tk_nf en, tk_nf sh, lt, fr, tk_nf ms, mv, ol) (nI p)) ∧ (∀ post : Int32 → Prop, post rx → wpX_endedChild post (tk_oi q.head?, tk_oi q.getLast?, nI hd, -1, ex + 1, nI pr, lv, tk_nf (tk_op cw), tk_nf (tk_fA cw), tk_nf (tk_fB cw), fN, tk_nf st, upd sp p (nI (s + 1)), pa, rg, tk_nf ds, bh, tk_nf ps, tk_nf pk, pw, tk_nf rd, tk_nf wr, tk_nf en, tk_nf sh, lt, fr, tk_nf ms, mv, ol) (nI p)) ∧ (∀ post : Int32 → Prop, post ry → wpY_endedChild post (nI q.length, ex + 1, nI pr, tk_nf cw, fN, tk_nf st, pm, sp, rg, tk_nf ds, me, wo, fi, qa, ol) (nI p)) := tk_ec hJ.2.2.2.2.2.2 (fun j hj hn => (hJ.2.1 j hj hn).1) (nI p)
  have N : ¬ 0 ≤ rx → ¬ 0 ≤ ry → tk_O (b + 1) p (if cw s % 32 = 20 then 0 else 1) cw (fun post => wpX_execute post (tk_oi q.head?, tk_oi q.getLast?, nI hd, -1, ex + 1, nI pr, lv, tk_nf (tk_op cw), tk_nf (tk_fA cw), tk_nf (tk_fB cw), fN, tk_nf st, sp, pa, rg, tk_nf ds, bh, tk_nf ps, tk_nf pk, pw, tk_nf rd, tk_nf wr, tk_nf en, tk_nf sh, lt, fr, tk_nf ms, mv, ol) (nI p) (nI s)) (fun post => wpY_execute post (nI q.length, ex, nI pr, tk_nf cw, fN, tk_nf st, pm, sp, rg, tk_nf ds, me, wo, fi, qa, ol) (nI p)) := by
    intro nx ny
    exact ⟨1, (tk_oi q.head?, tk_oi q.getLast?, nI hd, -1, ex + 1, nI pr, lv, tk_nf (tk_op cw), tk_nf (tk_fA cw), tk_nf (tk_fB cw), fN, tk_nf st, upd sp p (nI (s + 1)), pa, upd rg (4 * p + cw s / 32 % 4) (-1), tk_nf ds, bh, tk_nf ps, tk_nf pk, pw, tk_nf rd, tk_nf wr, tk_nf en, tk_nf sh, lt, fr, tk_nf ms, mv, ol), (nI q.length, ex + 1, nI pr, tk_nf cw, fN, tk_nf st, pm, upd sp p (nI (s + 1)), upd rg (4 * p + cw s / 32 % 4) (-1), tk_nf ds, me, wo, fi, qa, ol), tk_in hJ (tk_S_u hS (by omega)) (by omega) ⟨hpq, Or.inl ⟨h1, by rw [ho]; rfl⟩⟩, fun post h => tk_xx (o := 14) hp hs ho rfl rfl hcw (by intros; omega) (by intros; omega) (by intros; omega) (by intros; omega) (by intros; omega) (fun _ => X2 _ (br_f nx (tk_st (4 * p + cw s / 32 % 4) (-1) (by omega) h))) (by intros; omega) (by intros; omega) (by intros; omega) (by intros; omega), fun post h => tk_yx (o := 14) hp hs hsp ho rfl rfl hcw (by intros; omega) (by intros; omega) (by intros; omega) (fun _ _ => tk_y231 (by omega) (by omega) (tk_yc hp ha hbb (by omega) (fun _ => Y1 _ (br_f ny (tk_st (4 * p + cw s / 32 % 4) (-1) (by omega) (br_f (by decide) (tk_y330 hp hsp (by omega) h)) (tk_i4 p _)))) (by intros; omega) (by intros; omega) (by intros; omega) (by intros; omega)))⟩
  rcases c with ⟨_, j, j1, j2, j3, j4, j5⟩ | ⟨_, c2, c3⟩ | ⟨_, c2, c3⟩
  · have hjp : j ≠ p := by
      intro e
      subst e
      omega
    subst j2 j3
    have h0 : (0 : Int32) ≤ nI j := nI_pos' (by omega)
    refine ⟨1, (tk_oi q.head?, tk_oi q.getLast?, nI hd, -1, ex + 1, nI pr, lv, tk_nf (tk_op cw), tk_nf (tk_fA cw), tk_nf (tk_fB cw), fN, tk_nf (tk_nu st j 0), upd sp p (nI (s + 1)), pa, upd (upd rg (4 * p + cw s / 32 % 4) (sp j)) (4 * p + cw s / 128) (nI j), tk_nf ds, bh, tk_nf ps, tk_nf pk, pw, tk_nf rd, tk_nf wr, tk_nf en, tk_nf sh, lt, fr, tk_nf ms, mv, ol), (nI q.length, ex + 1, nI pr, tk_nf cw, fN, tk_nf (tk_nu st j 0), pm, upd sp p (nI (s + 1)), upd (upd rg (4 * p + cw s / 32 % 4) (sp j)) (4 * p + cw s / 128) (nI j), tk_nf ds, me, wo, fi, qa, ol), tk_in (tk_J_f j4 hJ) ?_ (by omega) ⟨hpq, Or.inl ⟨by rw [tk_nun (fun e => hjp e.symm)]; exact h1, by rw [ho]; rfl⟩⟩, fun post h => tk_xx (o := 14) hp hs ho rfl rfl hcw (by intros; omega) (by intros; omega) (by intros; omega) (by intros; omega) (by intros; omega) (fun _ => X2 _ (br_t h0 (And.intro (pk_in j 6 j1) (tk_st (4 * p + cw s / 32 % 4) (sp j) (by omega) (tk_st (4 * p + cw s / 128) (nI j) (by omega) (tk_sn j 0 j1 h rfl (tk_vb 0))) rfl ((tk_ri j).trans (pk_un hjp)))))) (by intros; omega) (by intros; omega) (by intros; omega) (by intros; omega), fun post h => tk_yx (o := 14) hp hs hsp ho rfl rfl hcw (by intros; omega) (by intros; omega) (by intros; omega) (fun _ _ => tk_y231 (by omega) (by omega) (tk_yc hp ha hbb (by omega) (fun _ => Y1 _ (br_t h0 (And.intro (pk_in j 6 j1) (tk_st (4 * p + cw s / 32 % 4) (sp j) (by omega) (tk_st (4 * p + cw s / 128) (nI j) (by omega) (tk_sn j 0 j1 (br_f (by decide) (tk_y330 hp hsp (by omega) h))) (tk_i4 p _)) (tk_i4 p _) (tk_ri j))))) (by intros; omega) (by intros; omega) (by intros; omega) (by intros; omega)))⟩
    intro i hi h2
    have e : i ≠ j := by
      intro e
      subst e
      rw [tk_nus] at h2
      omega
    rw [tk_nun e] at h2
    exact (tk_S_u hS (by omega)) i hi h2
  · exact N (by rw [c2]; exact tk_nn1) (by rw [c3]; exact tk_nn1)
  · exact N (by rw [c2]; exact tk_nn1) (by rw [c3]; decide)
theorem tk_eoi (hD : tk_D ds rd wr ps pk pw wo fi) (hp : p < 6) (d : Int32) : ∃ i, i < 24 ∧ (tk_eo ds p d = 0 ∨ ds i = tk_eo ds p d) := by
  rcases tk_eo_c ds p d with k | ⟨j, j1, j2, j3⟩
  · exact ⟨0, by omega, Or.inl k.1⟩
  · exact ⟨4 * p + j, by omega, Or.inr j3.symm⟩
theorem tk_e16 (hp : p < 6) (hs : s < 64) (hsp : sp p = nI s) (hcw : cw s < 512) (hJ : tk_J q hd st ds ps pk rd wr en sh ms pa pm bh qa pw wo fi fr mv me) (hS : tk_S st sp) (hb : pr ≤ b) (h1 : st p = 1) (hpq : p ∉ q) (ho : cw s % 32 = 16) : tk_O (b + 1) p (if cw s % 32 = 20 then 0 else 1) cw (fun post => wpX_execute post (tk_oi q.head?, tk_oi q.getLast?, nI hd, -1, ex + 1, nI pr, lv, tk_nf (tk_op cw), tk_nf (tk_fA cw), tk_nf (tk_fB cw), fN, tk_nf st, sp, pa, rg, tk_nf ds, bh, tk_nf ps, tk_nf pk, pw, tk_nf rd, tk_nf wr, tk_nf en, tk_nf sh, lt, fr, tk_nf ms, mv, ol) (nI p) (nI s)) (fun post => wpY_execute post (nI q.length, ex, nI pr, tk_nf cw, fN, tk_nf st, pm, sp, rg, tk_nf ds, me, wo, fi, qa, ol) (nI p)) := by
  have ha : cw s / 32 % 4 < 4 := by omega
  have hbb : cw s / 128 < 4 := by omega
  have h6 := tk_eo_le (ds := ds) hJ.2.2.1.1 hp (rg (4 * p + cw s / 128))
  obtain ⟨i, hi, hie⟩ := tk_eoi hJ.2.2.1 hp (rg (4 * p + cw s / 128))
  obtain ⟨r, ps', pk', wo', fi', D', X, Y⟩ : ∃ (r : Int32) (ps' pk' : Nat → Nat) (wo' fi' : Nat → Int32), tk_D ds rd wr ps' pk' pw wo' fi' ∧ (∀ post : Int32 → SX → Prop, post r (tk_oi q.head?, tk_oi q.getLast?, nI hd, -1, ex + 1, nI pr, lv, tk_nf (tk_op cw), tk_nf (tk_fA cw), tk_nf (tk_fB cw), fN, tk_nf st, upd sp p (nI (s + 1)), pa, rg, tk_nf ds, bh, tk_nf ps', tk_nf pk', pw, tk_nf rd, tk_nf wr, tk_nf en, tk_nf sh, lt, fr, tk_nf ms, mv, ol) → wpX_readPipe post (tk_oi q.head?, tk_oi q.getLast?, nI hd, -1, ex + 1, nI pr, lv, tk_nf (tk_op cw), tk_nf (tk_fA cw), tk_nf (tk_fB cw), fN, tk_nf st, upd sp p (nI (s + 1)), pa, rg, tk_nf ds, bh, tk_nf ps, tk_nf pk, pw, tk_nf rd, tk_nf wr, tk_nf en, tk_nf sh, lt, fr, tk_nf ms, mv, ol) (nI (tk_eo ds p (rg (4 * p + cw s / 128))))) ∧ (∀ post : Int32 → SY → Prop, post r (nI q.length, ex + 1, nI pr, tk_nf cw, fN, tk_nf st, pm, sp, rg, tk_nf ds, me, wo', fi', qa, ol) → wpY_read post (nI q.length, ex + 1, nI pr, tk_nf cw, fN, tk_nf st, pm, sp, rg, tk_nf ds, me, wo, fi, qa, ol) (nI (tk_eo ds p (rg (4 * p + cw s / 128))))) := tk_rd hJ.2.2.1 h6 hi hie
  exact ⟨1, (tk_oi q.head?, tk_oi q.getLast?, nI hd, -1, ex + 1, nI pr, lv, tk_nf (tk_op cw), tk_nf (tk_fA cw), tk_nf (tk_fB cw), fN, tk_nf st, upd sp p (nI (s + 1)), pa, upd rg (4 * p + cw s / 32 % 4) r, tk_nf ds, bh, tk_nf ps', tk_nf pk', pw, tk_nf rd, tk_nf wr, tk_nf en, tk_nf sh, lt, fr, tk_nf ms, mv, ol), (nI q.length, ex + 1, nI pr, tk_nf cw, fN, tk_nf st, pm, upd sp p (nI (s + 1)), upd rg (4 * p + cw s / 32 % 4) r, tk_nf ds, me, wo', fi', qa, ol), tk_in (tk_J_D h1 hJ D' (fun _ _ => rfl)) (tk_S_u hS (by omega)) (by omega) ⟨hpq, Or.inl ⟨h1, by rw [ho]; rfl⟩⟩, fun post h => tk_xx (o := 16) hp hs ho rfl rfl hcw (by intros; omega) (by intros; omega) (by intros; omega) (by intros; omega) (by intros; omega) (by intros; omega) (by intros; omega) (by intros; omega) (by intros; omega) (fun _ _ _ _ _ _ => br_f (by decide) (br_t rfl (tk_xea hp (X _ (tk_st (4 * p + cw s / 32 % 4) r (by omega) h))))), fun post h => tk_yx (o := 16) hp hs hsp ho rfl rfl hcw (by intros; omega) (by intros; omega) (by intros; omega) (fun _ _ => tk_y231 (by omega) (by omega) (tk_yc hp ha hbb (by omega) (by intros; omega) (by intros; omega) (by intros; omega) (by intros; omega) (fun _ _ _ _ => br_t rfl (Y _ (br_f (by decide) (br_f (by decide) (br_f (by decide) (br_f (by decide) (br_f (by decide) (br_f (by decide) (tk_st (4 * p + cw s / 32 % 4) r (by omega) (br_f (by decide) (br_f (by decide) (tk_y330 hp hsp (by omega) h))))))))))))))⟩
theorem tk_e17 (hp : p < 6) (hs : s < 64) (hsp : sp p = nI s) (hcw : cw s < 512) (hJ : tk_J q hd st ds ps pk rd wr en sh ms pa pm bh qa pw wo fi fr mv me) (hS : tk_S st sp) (hb : pr ≤ b) (h1 : st p = 1) (hpq : p ∉ q) (ho : cw s % 32 = 17) (hw : tk_eo ds p (rg (4 * p + cw s / 128)) ≠ 0 → tk_eo ds p (rg (4 * p + cw s / 128)) % 2 = 0 → 0 < tk_cn ds (tk_eo ds p (rg (4 * p + cw s / 128)) - 1) 24 → pk ((tk_eo ds p (rg (4 * p + cw s / 128)) - 1) / 2) ≠ 4) : tk_O (b + 1) p (if cw s % 32 = 20 then 0 else 1) cw (fun post => wpX_execute post (tk_oi q.head?, tk_oi q.getLast?, nI hd, -1, ex + 1, nI pr, lv, tk_nf (tk_op cw), tk_nf (tk_fA cw), tk_nf (tk_fB cw), fN, tk_nf st, sp, pa, rg, tk_nf ds, bh, tk_nf ps, tk_nf pk, pw, tk_nf rd, tk_nf wr, tk_nf en, tk_nf sh, lt, fr, tk_nf ms, mv, ol) (nI p) (nI s)) (fun post => wpY_execute post (nI q.length, ex, nI pr, tk_nf cw, fN, tk_nf st, pm, sp, rg, tk_nf ds, me, wo, fi, qa, ol) (nI p)) := by
  have ha : cw s / 32 % 4 < 4 := by omega
  have hbb : cw s / 128 < 4 := by omega
  have h6 := tk_eo_le (ds := ds) hJ.2.2.1.1 hp (rg (4 * p + cw s / 128))
  obtain ⟨i, hi, hie⟩ := tk_eoi hJ.2.2.1 hp (rg (4 * p + cw s / 128))
  have K : (∃ (pk' : Nat → Nat) (rg' pw' wo' fi' : Nat → Int32), tk_D ds rd wr ps pk' pw' wo' fi' ∧ (∀ post : Int32 → SX → Prop, post 1 (tk_oi q.head?, tk_oi q.getLast?, nI hd, -1, ex + 1, nI pr, lv, tk_nf (tk_op cw), tk_nf (tk_fA cw), tk_nf (tk_fB cw), fN, tk_nf st, upd sp p (nI (s + 1)), pa, rg', tk_nf ds, bh, tk_nf ps, tk_nf pk', pw', tk_nf rd, tk_nf wr, tk_nf en, tk_nf sh, lt, fr, tk_nf ms, mv, ol) → wpX_writePipe post (tk_oi q.head?, tk_oi q.getLast?, nI hd, -1, ex + 1, nI pr, lv, tk_nf (tk_op cw), tk_nf (tk_fA cw), tk_nf (tk_fB cw), fN, tk_nf st, upd sp p (nI (s + 1)), pa, rg, tk_nf ds, bh, tk_nf ps, tk_nf pk, pw, tk_nf rd, tk_nf wr, tk_nf en, tk_nf sh, lt, fr, tk_nf ms, mv, ol) (nI p) (nI (tk_eo ds p (rg (4 * p + cw s / 128)))) (nI (cw s / 32 % 4))) ∧ (∀ post : Int32 → SY → Prop, post 1 (nI q.length, ex + 1, nI pr, tk_nf cw, fN, tk_nf st, pm, sp, rg', tk_nf ds, me, wo', fi', qa, ol) → wpY_write post (nI q.length, ex + 1, nI pr, tk_nf cw, fN, tk_nf st, pm, sp, rg, tk_nf ds, me, wo, fi, qa, ol) (nI p) (nI (cw s / 32 % 4)) (nI (tk_eo ds p (rg (4 * p + cw s / 128)))))) ∨ ((∀ post : Int32 → SX → Prop, post 0 (tk_oi q.head?, tk_oi q.getLast?, nI hd, -1, ex + 1, nI pr, lv, tk_nf (tk_op cw), tk_nf (tk_fA cw), tk_nf (tk_fB cw), fN, tk_nf st, upd sp p (nI (s + 1)), pa, rg, tk_nf ds, bh, tk_nf ps, tk_nf pk, pw, tk_nf rd, tk_nf wr, tk_nf en, tk_nf sh, lt, fr, tk_nf ms, mv, ol) → wpX_writePipe post (tk_oi q.head?, tk_oi q.getLast?, nI hd, -1, ex + 1, nI pr, lv, tk_nf (tk_op cw), tk_nf (tk_fA cw), tk_nf (tk_fB cw), fN, tk_nf st, upd sp p (nI (s + 1)), pa, rg, tk_nf ds, bh, tk_nf ps, tk_nf pk, pw, tk_nf rd, tk_nf wr, tk_nf en, tk_nf sh, lt, fr, tk_nf ms, mv, ol) (nI p) (nI (tk_eo ds p (rg (4 * p + cw s / 128)))) (nI (cw s / 32 % 4))) ∧ (∀ (v : SY) (post : Int32 → SY → Prop), (∀ P : SY → Prop, P v → wpY_end P (nI q.length, ex + 1, nI pr, tk_nf cw, fN, tk_nf st, pm, sp, rg, tk_nf ds, me, wo, fi, qa, ol) (nI p) (-2)) → post 0 v → wpY_write post (nI q.length, ex + 1, nI pr, tk_nf cw, fN, tk_nf st, pm, sp, rg, tk_nf ds, me, wo, fi, qa, ol) (nI p) (nI (cw s / 32 % 4)) (nI (tk_eo ds p (rg (4 * p + cw s / 128)))))) := tk_wt hp ha hJ.2.2.1 h6 hi hie hw
  rcases K with ⟨pk', rg', pw', wo', fi', D', X, Y⟩ | ⟨X, Y⟩
  · exact ⟨1, (tk_oi q.head?, tk_oi q.getLast?, nI hd, -1, ex + 1, nI pr, lv, tk_nf (tk_op cw), tk_nf (tk_fA cw), tk_nf (tk_fB cw), fN, tk_nf st, upd sp p (nI (s + 1)), pa, rg', tk_nf ds, bh, tk_nf ps, tk_nf pk', pw', tk_nf rd, tk_nf wr, tk_nf en, tk_nf sh, lt, fr, tk_nf ms, mv, ol), (nI q.length, ex + 1, nI pr, tk_nf cw, fN, tk_nf st, pm, upd sp p (nI (s + 1)), rg', tk_nf ds, me, wo', fi', qa, ol), tk_in (tk_J_D h1 hJ D' (fun _ _ => rfl)) (tk_S_u hS (by omega)) (by omega) ⟨hpq, Or.inl ⟨h1, by rw [ho]; rfl⟩⟩, fun post h => tk_xx (o := 17) hp hs ho rfl rfl hcw (by intros; omega) (by intros; omega) (by intros; omega) (by intros; omega) (fun _ => X _ (br_f (by decide) h)) (by intros; omega) (by intros; omega) (by intros; omega) (by intros; omega) (by intros; omega), fun post h => tk_yx (o := 17) hp hs hsp ho rfl rfl hcw (by intros; omega) (by intros; omega) (by intros; omega) (fun _ _ => tk_y231 (by omega) (by omega) (tk_yc hp ha hbb (by omega) (by intros; omega) (by intros; omega) (fun _ => Y _ (And.intro narrow_b1 (br_f (by decide) (tk_y330 hp hsp (by omega) h)))) (by intros; omega) (by intros; omega)))⟩
  · obtain ⟨u, v, R, XE, YE⟩ : ∃ (u : SX) (v : SY), tk_Rel b (fun q st => p ∉ q ∧ st p ≠ 1 ∧ st p ≠ 2) cw u v ∧ (∀ post : SX → Prop, post u → wpX_end post (tk_oi q.head?, tk_oi q.getLast?, nI hd, -1, ex + 1, nI pr, lv, tk_nf (tk_op cw), tk_nf (tk_fA cw), tk_nf (tk_fB cw), fN, tk_nf st, upd sp p (nI (s + 1)), pa, rg, tk_nf ds, bh, tk_nf ps, tk_nf pk, pw, tk_nf rd, tk_nf wr, tk_nf en, tk_nf sh, lt, fr, tk_nf ms, mv, ol) (nI p) (-2)) ∧ (∀ post : SY → Prop, post v → wpY_end post (nI q.length, ex + 1, nI pr, tk_nf cw, fN, tk_nf st, pm, sp, rg, tk_nf ds, me, wo, fi, qa, ol) (nI p) (-2)) := tk_endp hp (Or.inl h1) hJ hS hb (fun j hj => pk_un hj)
    exact ⟨0, u, v, tk_mono R (by omega) (fun q st h => ⟨h.1, Or.inr ⟨h.2.1, rfl⟩⟩), fun post h => tk_xx (o := 17) hp hs ho rfl rfl hcw (by intros; omega) (by intros; omega) (by intros; omega) (by intros; omega) (fun _ => X _ (br_t rfl (XE post h))) (by intros; omega) (by intros; omega) (by intros; omega) (by intros; omega) (by intros; omega), fun post h => tk_yx (o := 17) hp hs hsp ho rfl rfl hcw (by intros; omega) (by intros; omega) (by intros; omega) (fun _ _ => tk_y231 (by omega) (by omega) (tk_yc hp ha hbb (by omega) (by intros; omega) (by intros; omega) (fun _ => Y v _ YE (And.intro narrow_b0 (br_t rfl h))) (by intros; omega) (by intros; omega)))⟩
theorem tk_e18 (hp : p < 6) (hs : s < 64) (hsp : sp p = nI s) (hcw : cw s < 512) (hJ : tk_J q hd st ds ps pk rd wr en sh ms pa pm bh qa pw wo fi fr mv me) (hS : tk_S st sp) (hb : pr ≤ b) (h1 : st p = 1) (hpq : p ∉ q) (ho : cw s % 32 = 18) : tk_O (b + 1) p (if cw s % 32 = 20 then 0 else 1) cw (fun post => wpX_execute post (tk_oi q.head?, tk_oi q.getLast?, nI hd, -1, ex + 1, nI pr, lv, tk_nf (tk_op cw), tk_nf (tk_fA cw), tk_nf (tk_fB cw), fN, tk_nf st, sp, pa, rg, tk_nf ds, bh, tk_nf ps, tk_nf pk, pw, tk_nf rd, tk_nf wr, tk_nf en, tk_nf sh, lt, fr, tk_nf ms, mv, ol) (nI p) (nI s)) (fun post => wpY_execute post (nI q.length, ex, nI pr, tk_nf cw, fN, tk_nf st, pm, sp, rg, tk_nf ds, me, wo, fi, qa, ol) (nI p)) := by
  have ha : cw s / 32 % 4 < 4 := by omega
  have hbb : cw s / 128 < 4 := by omega
  have h6 := tk_eo_le (ds := ds) hJ.2.2.1.1 hp (rg (4 * p + cw s / 128))
  by_cases z : tk_eo ds p (rg (4 * p + cw s / 128)) = 0
  · refine ⟨1, (tk_oi q.head?, tk_oi q.getLast?, nI hd, -1, ex + 1, nI pr, lv, tk_nf (tk_op cw), tk_nf (tk_fA cw), tk_nf (tk_fB cw), fN, tk_nf st, upd sp p (nI (s + 1)), pa, upd rg (4 * p + cw s / 32 % 4) (-1), tk_nf ds, bh, tk_nf ps, tk_nf pk, pw, tk_nf rd, tk_nf wr, tk_nf en, tk_nf sh, lt, fr, tk_nf ms, mv, ol), (nI q.length, ex + 1, nI pr, tk_nf cw, fN, tk_nf st, pm, upd sp p (nI (s + 1)), upd rg (4 * p + cw s / 32 % 4) (-1), tk_nf ds, me, wo, fi, qa, ol), tk_in hJ (tk_S_u hS (by omega)) (by omega) ⟨hpq, Or.inl ⟨h1, by rw [ho]; rfl⟩⟩, fun post h => tk_xx (o := 18) hp hs ho rfl rfl hcw (by intros; omega) (by intros; omega) (by intros; omega) (by intros; omega) (by intros; omega) (by intros; omega) (by intros; omega) (by intros; omega) (by intros; omega) (fun _ _ _ _ _ _ => br_f (by decide) (br_f (by decide) (br_t rfl (tk_xea hp ?_)))), fun post h => tk_yx (o := 18) hp hs hsp ho rfl rfl hcw (by intros; omega) (by intros; omega) (by intros; omega) (fun _ _ => tk_y231 (by omega) (by omega) (tk_yc hp ha hbb (by omega) (by intros; omega) (by intros; omega) (by intros; omega) (by intros; omega) (fun _ _ _ _ => br_f (by decide) (br_t rfl (tk_yc0 hp hbb z (br_f (by decide) (br_f (by decide) (br_f (by decide) (br_f (by decide) (br_f (by decide) (tk_st (4 * p + cw s / 32 % 4) (-1) (by omega) (br_f (by decide) (br_f (by decide) (tk_y330 hp hsp (by omega) h))))))))))))))⟩
    rw [z]
    exact br_t rfl (tk_st (4 * p + cw s / 32 % 4) (-1) (by omega) h)
  · rcases tk_eo_c ds p (rg (4 * p + cw s / 128)) with k | ⟨j, j1, j2, j3⟩
    · exact absurd k.1 z
    · obtain ⟨rd', wr', pk', D', X⟩ : ∃ rd' wr' pk' : Nat → Nat, tk_D (tk_nu ds (4 * p + j) 0) rd' wr' ps pk' pw wo fi ∧ ∀ post : SX → Prop, post (tk_oi q.head?, tk_oi q.getLast?, nI hd, -1, ex + 1, nI pr, lv, tk_nf (tk_op cw), tk_nf (tk_fA cw), tk_nf (tk_fB cw), fN, tk_nf st, upd sp p (nI (s + 1)), pa, rg, tk_nf (tk_nu ds (4 * p + j) 0), bh, tk_nf ps, tk_nf pk', pw, tk_nf rd', tk_nf wr', tk_nf en, tk_nf sh, lt, fr, tk_nf ms, mv, ol) → wpX_closeEnd post (tk_oi q.head?, tk_oi q.getLast?, nI hd, -1, ex + 1, nI pr, lv, tk_nf (tk_op cw), tk_nf (tk_fA cw), tk_nf (tk_fB cw), fN, tk_nf st, upd sp p (nI (s + 1)), pa, rg, tk_nf ds, bh, tk_nf ps, tk_nf pk, pw, tk_nf rd, tk_nf wr, tk_nf en, tk_nf sh, lt, fr, tk_nf ms, mv, ol) (nI p) (nI j) := tk_cl hJ.2.2.1 hp j1
      refine ⟨1, (tk_oi q.head?, tk_oi q.getLast?, nI hd, -1, ex + 1, nI pr, lv, tk_nf (tk_op cw), tk_nf (tk_fA cw), tk_nf (tk_fB cw), fN, tk_nf st, upd sp p (nI (s + 1)), pa, upd rg (4 * p + cw s / 32 % 4) 0, tk_nf (tk_nu ds (4 * p + j) 0), bh, tk_nf ps, tk_nf pk', pw, tk_nf rd', tk_nf wr', tk_nf en, tk_nf sh, lt, fr, tk_nf ms, mv, ol), (nI q.length, ex + 1, nI pr, tk_nf cw, fN, tk_nf st, pm, upd sp p (nI (s + 1)), upd rg (4 * p + cw s / 32 % 4) 0, tk_nf (tk_nu ds (4 * p + j) 0), me, wo, fi, qa, ol), tk_in (tk_J_D h1 hJ D' (fun i hi => tk_nun (by omega))) (tk_S_u hS (by omega)) (by omega) ⟨hpq, Or.inl ⟨h1, by rw [ho]; rfl⟩⟩, fun post h => tk_xx (o := 18) hp hs ho rfl rfl hcw (by intros; omega) (by intros; omega) (by intros; omega) (by intros; omega) (by intros; omega) (by intros; omega) (by intros; omega) (by intros; omega) (by intros; omega) (fun _ _ _ _ _ _ => br_f (by decide) (br_f (by decide) (br_t rfl (tk_xea hp (br_f (nI_ne0 (by omega) (by omega)) ?_))))), fun post h => tk_yx (o := 18) hp hs hsp ho rfl rfl hcw (by intros; omega) (by intros; omega) (by intros; omega) (fun _ _ => tk_y231 (by omega) (by omega) (tk_yc hp ha hbb (by omega) (by intros; omega) (by intros; omega) (by intros; omega) (by intros; omega) (fun _ _ _ _ => br_f (by decide) (br_t rfl (tk_yc1 hp hbb j1 j2 z h6 (br_f (by decide) (br_f (by decide) (br_f (by decide) (br_f (by decide) (br_f (by decide) (tk_st (4 * p + cw s / 32 % 4) 0 (by omega) (br_f (by decide) (br_f (by decide) (tk_y330 hp hsp (by omega) h))))))))))))))⟩
      rw [j2]
      exact X _ (tk_st (4 * p + cw s / 32 % 4) 0 (by omega) h)
theorem tk_e19 (hp : p < 6) (hs : s < 64) (hsp : sp p = nI s) (hcw : cw s < 512) (hJ : tk_J q hd st ds ps pk rd wr en sh ms pa pm bh qa pw wo fi fr mv me) (hS : tk_S st sp) (hb : pr ≤ b) (h1 : st p = 1) (hpq : p ∉ q) (ho : cw s % 32 = 19) : tk_O (b + 1) p (if cw s % 32 = 20 then 0 else 1) cw (fun post => wpX_execute post (tk_oi q.head?, tk_oi q.getLast?, nI hd, -1, ex + 1, nI pr, lv, tk_nf (tk_op cw), tk_nf (tk_fA cw), tk_nf (tk_fB cw), fN, tk_nf st, sp, pa, rg, tk_nf ds, bh, tk_nf ps, tk_nf pk, pw, tk_nf rd, tk_nf wr, tk_nf en, tk_nf sh, lt, fr, tk_nf ms, mv, ol) (nI p) (nI s)) (fun post => wpY_execute post (nI q.length, ex, nI pr, tk_nf cw, fN, tk_nf st, pm, sp, rg, tk_nf ds, me, wo, fi, qa, ol) (nI p)) := by
  have ha : cw s / 32 % 4 < 4 := by omega
  have hbb : cw s / 128 < 4 := by omega
  obtain ⟨i, hi, hie⟩ := tk_eoi hJ.2.2.1 hp (rg (4 * p + cw s / 128))
  obtain ⟨r, ds', rd', wr', ⟨D', E'⟩, X, Y⟩ : ∃ (r : Int32) (ds' rd' wr' : Nat → Nat), (tk_D ds' rd' wr' ps pk pw wo fi ∧ ∀ j, j / 4 ≠ p → ds' j = ds j) ∧ (∀ post : Int32 → SX → Prop, post r (tk_oi q.head?, tk_oi q.getLast?, nI hd, -1, ex + 1, nI pr, lv, tk_nf (tk_op cw), tk_nf (tk_fA cw), tk_nf (tk_fB cw), fN, tk_nf st, upd sp p (nI (s + 1)), pa, rg, tk_nf ds', bh, tk_nf ps, tk_nf pk, pw, tk_nf rd', tk_nf wr', tk_nf en, tk_nf sh, lt, fr, tk_nf ms, mv, ol) → wpX_copyEnd post (tk_oi q.head?, tk_oi q.getLast?, nI hd, -1, ex + 1, nI pr, lv, tk_nf (tk_op cw), tk_nf (tk_fA cw), tk_nf (tk_fB cw), fN, tk_nf st, upd sp p (nI (s + 1)), pa, rg, tk_nf ds, bh, tk_nf ps, tk_nf pk, pw, tk_nf rd, tk_nf wr, tk_nf en, tk_nf sh, lt, fr, tk_nf ms, mv, ol) (nI p) (nI (tk_eo ds p (rg (4 * p + cw s / 128))))) ∧ (∀ post : Int32 → SY → Prop, post r (nI q.length, ex + 1, nI pr, tk_nf cw, fN, tk_nf st, pm, sp, rg, tk_nf ds', me, wo, fi, qa, ol) → wpY_copyEnd post (nI q.length, ex + 1, nI pr, tk_nf cw, fN, tk_nf st, pm, sp, rg, tk_nf ds, me, wo, fi, qa, ol) (nI p) (nI (tk_eo ds p (rg (4 * p + cw s / 128))))) := tk_cy hp hJ.2.2.1 hi hie
  exact ⟨1, (tk_oi q.head?, tk_oi q.getLast?, nI hd, -1, ex + 1, nI pr, lv, tk_nf (tk_op cw), tk_nf (tk_fA cw), tk_nf (tk_fB cw), fN, tk_nf st, upd sp p (nI (s + 1)), pa, upd rg (4 * p + cw s / 32 % 4) r, tk_nf ds', bh, tk_nf ps, tk_nf pk, pw, tk_nf rd', tk_nf wr', tk_nf en, tk_nf sh, lt, fr, tk_nf ms, mv, ol), (nI q.length, ex + 1, nI pr, tk_nf cw, fN, tk_nf st, pm, upd sp p (nI (s + 1)), upd rg (4 * p + cw s / 32 % 4) r, tk_nf ds', me, wo, fi, qa, ol), tk_in (tk_J_D h1 hJ D' E') (tk_S_u hS (by omega)) (by omega) ⟨hpq, Or.inl ⟨h1, by rw [ho]; rfl⟩⟩, fun post h => tk_xx (o := 19) hp hs ho rfl rfl hcw (by intros; omega) (by intros; omega) (by intros; omega) (by intros; omega) (by intros; omega) (by intros; omega) (by intros; omega) (by intros; omega) (by intros; omega) (fun _ _ _ _ _ _ => br_f (by decide) (br_f (by decide) (br_f (by decide) (br_t rfl (tk_xea hp (X _ (tk_st (4 * p + cw s / 32 % 4) r (by omega) h))))))), fun post h => tk_yx (o := 19) hp hs hsp ho rfl rfl hcw (by intros; omega) (by intros; omega) (by intros; omega) (fun _ _ => tk_y231 (by omega) (by omega) (tk_yc hp ha hbb (by omega) (by intros; omega) (by intros; omega) (by intros; omega) (by intros; omega) (fun _ _ _ _ => br_f (by decide) (br_f (by decide) (br_t rfl (Y _ (br_f (by decide) (br_f (by decide) (br_f (by decide) (br_f (by decide) (tk_st (4 * p + cw s / 32 % 4) r (by omega) (br_f (by decide) (br_f (by decide) (tk_y330 hp hsp (by omega) h))))))))))))))⟩
theorem tk_e20 (hp : p < 6) (hs : s < 64) (hsp : sp p = nI s) (hcw : cw s < 512) (hJ : tk_J q hd st ds ps pk rd wr en sh ms pa pm bh qa pw wo fi fr mv me) (hS : tk_S st sp) (hb : pr ≤ b) (h1 : st p = 1) (hpq : p ∉ q) (ho : cw s % 32 = 20) : tk_O (b + 1) p (if cw s % 32 = 20 then 0 else 1) cw (fun post => wpX_execute post (tk_oi q.head?, tk_oi q.getLast?, nI hd, -1, ex + 1, nI pr, lv, tk_nf (tk_op cw), tk_nf (tk_fA cw), tk_nf (tk_fB cw), fN, tk_nf st, sp, pa, rg, tk_nf ds, bh, tk_nf ps, tk_nf pk, pw, tk_nf rd, tk_nf wr, tk_nf en, tk_nf sh, lt, fr, tk_nf ms, mv, ol) (nI p) (nI s)) (fun post => wpY_execute post (nI q.length, ex, nI pr, tk_nf cw, fN, tk_nf st, pm, sp, rg, tk_nf ds, me, wo, fi, qa, ol) (nI p)) := by
  have ha : cw s / 32 % 4 < 4 := by omega
  have hbb : cw s / 128 < 4 := by omega
  refine ⟨0, (tk_oi q.head?, tk_oi q.getLast?, nI hd, -1, ex + 1, nI pr, lv, tk_nf (tk_op cw), tk_nf (tk_fA cw), tk_nf (tk_fB cw), fN, tk_nf st, upd sp p (nI (s + 1)), pa, rg, tk_nf ds, bh, tk_nf ps, tk_nf pk, pw, tk_nf rd, tk_nf wr, tk_nf en, tk_nf sh, lt, fr, tk_nf ms, mv, ol), (nI q.length, ex + 1, nI pr, tk_nf cw, fN, tk_nf st, pm, upd sp p (nI (s + 1)), rg, tk_nf ds, me, wo, fi, qa, ol), tk_in hJ (tk_S_u hS (by omega)) (by omega) ⟨hpq, Or.inl ⟨h1, by rw [ho]; rfl⟩⟩, fun post h => tk_xx (o := 20) hp hs ho rfl rfl hcw (by intros; omega) (by intros; omega) (by intros; omega) (by intros; omega) (by intros; omega) (by intros; omega) (by intros; omega) (by intros; omega) (fun _ => h) (by intros; omega), fun post h => tk_yx (o := 20) hp hs hsp ho rfl rfl hcw (by intros; omega) (by intros; omega) (by intros; omega) (fun _ _ => tk_y231 (by omega) (by omega) (tk_yc hp ha hbb (by omega) (by intros; omega) (by intros; omega) (by intros; omega) (by intros; omega) (fun _ _ _ _ => br_f (by decide) (br_f (by decide) (br_f (by decide) (br_f (by decide) (br_f (by decide) (br_f (by decide) (br_f (by decide) (tk_st (4 * p + cw s / 32 % 4) (rg (4 * p + cw s / 32 % 4)) (by omega) (br_f (by decide) (br_f (by decide) ?_))))))))))))⟩
  rw [tk_updk rfl]
  exact tk_y330 hp hsp (by omega) h
theorem tk_e21 (hp : p < 6) (hs : s < 64) (hsp : sp p = nI s) (hcw : cw s < 512) (hJ : tk_J q hd st ds ps pk rd wr en sh ms pa pm bh qa pw wo fi fr mv me) (hS : tk_S st sp) (hb : pr ≤ b) (h1 : st p = 1) (hpq : p ∉ q) (hB : b < 2 ^ 30) (ho : cw s % 32 = 21) : tk_O (b + 1) p (if cw s % 32 = 20 then 0 else 1) cw (fun post => wpX_execute post (tk_oi q.head?, tk_oi q.getLast?, nI hd, -1, ex + 1, nI pr, lv, tk_nf (tk_op cw), tk_nf (tk_fA cw), tk_nf (tk_fB cw), fN, tk_nf st, sp, pa, rg, tk_nf ds, bh, tk_nf ps, tk_nf pk, pw, tk_nf rd, tk_nf wr, tk_nf en, tk_nf sh, lt, fr, tk_nf ms, mv, ol) (nI p) (nI s)) (fun post => wpY_execute post (nI q.length, ex, nI pr, tk_nf cw, fN, tk_nf st, pm, sp, rg, tk_nf ds, me, wo, fi, qa, ol) (nI p)) := by
  have ha : cw s / 32 % 4 < 4 := by omega
  have hbb : cw s / 128 < 4 := by omega
  have L : ∀ (pr' : Nat) (ol' : Nat → Int32), (pr' ≤ b + 1) → (∀ post : SX → Prop, post (tk_oi q.head?, tk_oi q.getLast?, nI hd, -1, ex + 1, nI pr', lv, tk_nf (tk_op cw), tk_nf (tk_fA cw), tk_nf (tk_fB cw), fN, tk_nf st, upd sp p (nI (s + 1)), pa, rg, tk_nf ds, bh, tk_nf ps, tk_nf pk, pw, tk_nf rd, tk_nf wr, tk_nf en, tk_nf sh, lt, fr, tk_nf ms, mv, ol') → wpX_print post (tk_oi q.head?, tk_oi q.getLast?, nI hd, -1, ex + 1, nI pr, lv, tk_nf (tk_op cw), tk_nf (tk_fA cw), tk_nf (tk_fB cw), fN, tk_nf st, upd sp p (nI (s + 1)), pa, rg, tk_nf ds, bh, tk_nf ps, tk_nf pk, pw, tk_nf rd, tk_nf wr, tk_nf en, tk_nf sh, lt, fr, tk_nf ms, mv, ol) (rg (4 * p + cw s / 32 % 4))) → (∀ post : SY → Prop, post (nI q.length, ex + 1, nI pr', tk_nf cw, fN, tk_nf st, pm, sp, rg, tk_nf ds, me, wo, fi, qa, ol') → wpY_show post (nI q.length, ex + 1, nI pr, tk_nf cw, fN, tk_nf st, pm, sp, rg, tk_nf ds, me, wo, fi, qa, ol) (rg (4 * p + cw s / 32 % 4))) → tk_O (b + 1) p (if cw s % 32 = 20 then 0 else 1) cw (fun post => wpX_execute post (tk_oi q.head?, tk_oi q.getLast?, nI hd, -1, ex + 1, nI pr, lv, tk_nf (tk_op cw), tk_nf (tk_fA cw), tk_nf (tk_fB cw), fN, tk_nf st, sp, pa, rg, tk_nf ds, bh, tk_nf ps, tk_nf pk, pw, tk_nf rd, tk_nf wr, tk_nf en, tk_nf sh, lt, fr, tk_nf ms, mv, ol) (nI p) (nI s)) (fun post => wpY_execute post (nI q.length, ex, nI pr, tk_nf cw, fN, tk_nf st, pm, sp, rg, tk_nf ds, me, wo, fi, qa, ol) (nI p)) := by
    intro pr' ol' hb' X Y
    refine ⟨1, (tk_oi q.head?, tk_oi q.getLast?, nI hd, -1, ex + 1, nI pr', lv, tk_nf (tk_op cw), tk_nf (tk_fA cw), tk_nf (tk_fB cw), fN, tk_nf st, upd sp p (nI (s + 1)), pa, rg, tk_nf ds, bh, tk_nf ps, tk_nf pk, pw, tk_nf rd, tk_nf wr, tk_nf en, tk_nf sh, lt, fr, tk_nf ms, mv, ol'), (nI q.length, ex + 1, nI pr', tk_nf cw, fN, tk_nf st, pm, upd sp p (nI (s + 1)), rg, tk_nf ds, me, wo, fi, qa, ol'), tk_in hJ (tk_S_u hS (by omega)) hb' ⟨hpq, Or.inl ⟨h1, by rw [ho]; rfl⟩⟩, fun post h => tk_xx (o := 21) hp hs ho rfl rfl hcw (by intros; omega) (by intros; omega) (by intros; omega) (by intros; omega) (by intros; omega) (by intros; omega) (by intros; omega) (fun _ => X _ h) (by intros; omega) (by intros; omega), fun post h => tk_yx (o := 21) hp hs hsp ho rfl rfl hcw (by intros; omega) (by intros; omega) (by intros; omega) (fun _ _ => tk_y231 (by omega) (by omega) (tk_yc hp ha hbb (by omega) (by intros; omega) (by intros; omega) (by intros; omega) (by intros; omega) (fun _ _ _ _ => br_f (by decide) (br_f (by decide) (br_f (by decide) (br_t rfl (Y _ (br_f (by decide) (br_f (by decide) (br_f (by decide) (tk_st (4 * p + cw s / 32 % 4) (rg (4 * p + cw s / 32 % 4)) (by omega) (br_f (by decide) (br_f (by decide) ?_)))))))))))))⟩
    rw [tk_updk rfl]
    exact tk_y330 hp hsp (by omega) h
  by_cases c : 32 ≤ pr
  · have hl : (32 : Int32) ≤ nI pr := nI_le (a := 32) c (by omega)
    exact L (pr + 1) ol (by omega) (fun post h => br_t hl (nm_r (nI_1 pr) h)) (fun post h => br_t hl (nm_r (nI_1 pr) h))
  · have hl : ¬ (32 : Int32) ≤ nI pr := nI_ge (b := 32) (by omega) (by decide)
    exact L (pr + 1) (upd ol pr (rg (4 * p + cw s / 32 % 4))) (by omega) (fun post h => br_f hl (tk_st pr (rg (4 * p + cw s / 32 % 4)) (by omega) (nm_r (nI_1 pr) h))) (fun post h => br_f hl (tk_st pr (rg (4 * p + cw s / 32 % 4)) (by omega) (nm_r (nI_1 pr) h)))
theorem tk_e22 (hp : p < 6) (hs : s < 64) (hsp : sp p = nI s) (hcw : cw s < 512) (hJ : tk_J q hd st ds ps pk rd wr en sh ms pa pm bh qa pw wo fi fr mv me) (hS : tk_S st sp) (hb : pr ≤ b) (h1 : st p = 1) (hpq : p ∉ q) (ho : cw s % 32 = 22) : tk_O (b + 1) p (if cw s % 32 = 20 then 0 else 1) cw (fun post => wpX_execute post (tk_oi q.head?, tk_oi q.getLast?, nI hd, -1, ex + 1, nI pr, lv, tk_nf (tk_op cw), tk_nf (tk_fA cw), tk_nf (tk_fB cw), fN, tk_nf st, sp, pa, rg, tk_nf ds, bh, tk_nf ps, tk_nf pk, pw, tk_nf rd, tk_nf wr, tk_nf en, tk_nf sh, lt, fr, tk_nf ms, mv, ol) (nI p) (nI s)) (fun post => wpY_execute post (nI q.length, ex, nI pr, tk_nf cw, fN, tk_nf st, pm, sp, rg, tk_nf ds, me, wo, fi, qa, ol) (nI p)) := by
  have ha : cw s / 32 % 4 < 4 := by omega
  have hbb : cw s / 128 < 4 := by omega
  exact ⟨1, (tk_oi q.head?, tk_oi q.getLast?, nI hd, -1, ex + 1, nI pr, lv, tk_nf (tk_op cw), tk_nf (tk_fA cw), tk_nf (tk_fB cw), fN, tk_nf st, upd sp p (nI (s + 1)), pa, upd rg (4 * p + cw s / 32 % 4) (nI p), tk_nf ds, bh, tk_nf ps, tk_nf pk, pw, tk_nf rd, tk_nf wr, tk_nf en, tk_nf sh, lt, fr, tk_nf ms, mv, ol), (nI q.length, ex + 1, nI pr, tk_nf cw, fN, tk_nf st, pm, upd sp p (nI (s + 1)), upd rg (4 * p + cw s / 32 % 4) (nI p), tk_nf ds, me, wo, fi, qa, ol), tk_in hJ (tk_S_u hS (by omega)) (by omega) ⟨hpq, Or.inl ⟨h1, by rw [ho]; rfl⟩⟩, fun post h => tk_xx (o := 22) hp hs ho rfl rfl hcw (by intros; omega) (by intros; omega) (by intros; omega) (by intros; omega) (by intros; omega) (by intros; omega) (by intros; omega) (by intros; omega) (by intros; omega) (fun _ _ _ _ _ _ => br_f (by decide) (br_f (by decide) (br_f (by decide) (br_f (by decide) (br_f (by decide) (br_t rfl (tk_st (4 * p + cw s / 32 % 4) (nI p) (by omega) h))))))), fun post h => tk_yx (o := 22) hp hs hsp ho rfl rfl hcw (by intros; omega) (by intros; omega) (by intros; omega) (fun _ _ => tk_y231 (by omega) (by omega) (tk_yc hp ha hbb (by omega) (by intros; omega) (by intros; omega) (by intros; omega) (by intros; omega) (fun _ _ _ _ => br_f (by decide) (br_f (by decide) (br_f (by decide) (br_f (by decide) (br_t rfl (br_f (by decide) (br_f (by decide) (tk_st (4 * p + cw s / 32 % 4) (nI p) (by omega) (br_f (by decide) (br_f (by decide) (tk_y330 hp hsp (by omega) h)))))))))))))⟩
theorem tk_e23 (hp : p < 6) (hs : s < 64) (hsp : sp p = nI s) (hcw : cw s < 512) (hJ : tk_J q hd st ds ps pk rd wr en sh ms pa pm bh qa pw wo fi fr mv me) (hS : tk_S st sp) (hb : pr ≤ b) (h1 : st p = 1) (hpq : p ∉ q) (ho : cw s % 32 = 23) : tk_O (b + 1) p (if cw s % 32 = 20 then 0 else 1) cw (fun post => wpX_execute post (tk_oi q.head?, tk_oi q.getLast?, nI hd, -1, ex + 1, nI pr, lv, tk_nf (tk_op cw), tk_nf (tk_fA cw), tk_nf (tk_fB cw), fN, tk_nf st, sp, pa, rg, tk_nf ds, bh, tk_nf ps, tk_nf pk, pw, tk_nf rd, tk_nf wr, tk_nf en, tk_nf sh, lt, fr, tk_nf ms, mv, ol) (nI p) (nI s)) (fun post => wpY_execute post (nI q.length, ex, nI pr, tk_nf cw, fN, tk_nf st, pm, sp, rg, tk_nf ds, me, wo, fi, qa, ol) (nI p)) := by
  have ha : cw s / 32 % 4 < 4 := by omega
  have hbb : cw s / 128 < 4 := by omega
  have hpm : pm p = pa p := (hJ.2.1 p hp (by omega)).1
  exact ⟨1, (tk_oi q.head?, tk_oi q.getLast?, nI hd, -1, ex + 1, nI pr, lv, tk_nf (tk_op cw), tk_nf (tk_fA cw), tk_nf (tk_fB cw), fN, tk_nf st, upd sp p (nI (s + 1)), pa, upd rg (4 * p + cw s / 32 % 4) (pa p), tk_nf ds, bh, tk_nf ps, tk_nf pk, pw, tk_nf rd, tk_nf wr, tk_nf en, tk_nf sh, lt, fr, tk_nf ms, mv, ol), (nI q.length, ex + 1, nI pr, tk_nf cw, fN, tk_nf st, pm, upd sp p (nI (s + 1)), upd rg (4 * p + cw s / 32 % 4) (pa p), tk_nf ds, me, wo, fi, qa, ol), tk_in hJ (tk_S_u hS (by omega)) (by omega) ⟨hpq, Or.inl ⟨h1, by rw [ho]; rfl⟩⟩, fun post h => tk_xx (o := 23) hp hs ho rfl rfl hcw (by intros; omega) (by intros; omega) (by intros; omega) (by intros; omega) (by intros; omega) (by intros; omega) (by intros; omega) (by intros; omega) (by intros; omega) (fun _ _ _ _ _ _ => br_f (by decide) (br_f (by decide) (br_f (by decide) (br_f (by decide) (br_f (by decide) (br_f (by decide) (tk_ld p (pa p) hp (tk_st (4 * p + cw s / 32 % 4) (pa p) (by omega) h)))))))), fun post h => tk_yx (o := 23) hp hs hsp ho rfl rfl hcw (by intros; omega) (by intros; omega) (by intros; omega) (fun _ _ => tk_y231 (by omega) (by omega) (tk_yc hp ha hbb (by omega) (by intros; omega) (by intros; omega) (by intros; omega) (by intros; omega) (fun _ _ _ _ => br_f (by decide) (br_f (by decide) (br_f (by decide) (br_f (by decide) (br_f (by decide) (br_t rfl (tk_ld p (pa p) hp (br_f (by decide) (tk_st (4 * p + cw s / 32 % 4) (pa p) (by omega) (br_f (by decide) (br_f (by decide) (tk_y330 hp hsp (by omega) h))))) rfl hpm)))))))))⟩
theorem tk_e24 (hp : p < 6) (hs : s < 64) (hsp : sp p = nI s) (hcw : cw s < 512) (hJ : tk_J q hd st ds ps pk rd wr en sh ms pa pm bh qa pw wo fi fr mv me) (hS : tk_S st sp) (hb : pr ≤ b) (h1 : st p = 1) (hpq : p ∉ q) (ho : cw s % 32 = 24) : tk_O (b + 1) p (if cw s % 32 = 20 then 0 else 1) cw (fun post => wpX_execute post (tk_oi q.head?, tk_oi q.getLast?, nI hd, -1, ex + 1, nI pr, lv, tk_nf (tk_op cw), tk_nf (tk_fA cw), tk_nf (tk_fB cw), fN, tk_nf st, sp, pa, rg, tk_nf ds, bh, tk_nf ps, tk_nf pk, pw, tk_nf rd, tk_nf wr, tk_nf en, tk_nf sh, lt, fr, tk_nf ms, mv, ol) (nI p) (nI s)) (fun post => wpY_execute post (nI q.length, ex, nI pr, tk_nf cw, fN, tk_nf st, pm, sp, rg, tk_nf ds, me, wo, fi, qa, ol) (nI p)) := by
  have ha : cw s / 32 % 4 < 4 := by omega
  have hbb : cw s / 128 < 4 := by omega
  have N : (∀ post : SX → Prop, post (tk_oi q.head?, tk_oi q.getLast?, nI hd, -1, ex + 1, nI pr, lv, tk_nf (tk_op cw), tk_nf (tk_fA cw), tk_nf (tk_fB cw), fN, tk_nf st, upd sp p (nI (s + 1)), pa, upd rg (4 * p + cw s / 32 % 4) (-1), tk_nf ds, bh, tk_nf ps, tk_nf pk, pw, tk_nf rd, tk_nf wr, tk_nf en, tk_nf sh, lt, fr, tk_nf ms, mv, ol) → wpX_askKernel post (tk_oi q.head?, tk_oi q.getLast?, nI hd, -1, ex + 1, nI pr, lv, tk_nf (tk_op cw), tk_nf (tk_fA cw), tk_nf (tk_fB cw), fN, tk_nf st, upd sp p (nI (s + 1)), pa, rg, tk_nf ds, bh, tk_nf ps, tk_nf pk, pw, tk_nf rd, tk_nf wr, tk_nf en, tk_nf sh, lt, fr, tk_nf ms, mv, ol) (nI p) (nI 24) (nI (4 * p + cw s / 32 % 4)) (rg (4 * p + cw s / 128))) → (∀ post : Int32 → SY → Prop, post (-1) (nI q.length, ex + 1, nI pr, tk_nf cw, fN, tk_nf st, pm, sp, rg, tk_nf ds, me, wo, fi, qa, ol) → wpY_killOther post (nI q.length, ex + 1, nI pr, tk_nf cw, fN, tk_nf st, pm, sp, rg, tk_nf ds, me, wo, fi, qa, ol) (nI p) (rg (4 * p + cw s / 128))) → tk_O (b + 1) p (if cw s % 32 = 20 then 0 else 1) cw (fun post => wpX_execute post (tk_oi q.head?, tk_oi q.getLast?, nI hd, -1, ex + 1, nI pr, lv, tk_nf (tk_op cw), tk_nf (tk_fA cw), tk_nf (tk_fB cw), fN, tk_nf st, sp, pa, rg, tk_nf ds, bh, tk_nf ps, tk_nf pk, pw, tk_nf rd, tk_nf wr, tk_nf en, tk_nf sh, lt, fr, tk_nf ms, mv, ol) (nI p) (nI s)) (fun post => wpY_execute post (nI q.length, ex, nI pr, tk_nf cw, fN, tk_nf st, pm, sp, rg, tk_nf ds, me, wo, fi, qa, ol) (nI p)) := by
    intro X Y
    exact ⟨1, (tk_oi q.head?, tk_oi q.getLast?, nI hd, -1, ex + 1, nI pr, lv, tk_nf (tk_op cw), tk_nf (tk_fA cw), tk_nf (tk_fB cw), fN, tk_nf st, upd sp p (nI (s + 1)), pa, upd rg (4 * p + cw s / 32 % 4) (-1), tk_nf ds, bh, tk_nf ps, tk_nf pk, pw, tk_nf rd, tk_nf wr, tk_nf en, tk_nf sh, lt, fr, tk_nf ms, mv, ol), (nI q.length, ex + 1, nI pr, tk_nf cw, fN, tk_nf st, pm, upd sp p (nI (s + 1)), upd rg (4 * p + cw s / 32 % 4) (-1), tk_nf ds, me, wo, fi, qa, ol), tk_in hJ (tk_S_u hS (by omega)) (by omega) ⟨hpq, Or.inl ⟨h1, by rw [ho]; rfl⟩⟩, fun post h => tk_xx (o := 24) hp hs ho rfl rfl hcw (by intros; omega) (by intros; omega) (by intros; omega) (by intros; omega) (by intros; omega) (by intros; omega) (by intros; omega) (by intros; omega) (by intros; omega) (fun _ _ _ _ _ _ => X _ h), fun post h => tk_yx (o := 24) hp hs hsp ho rfl rfl hcw (by intros; omega) (by intros; omega) (by intros; omega) (fun _ _ => tk_y231 (by omega) (by omega) (tk_yc hp ha hbb (by omega) (by intros; omega) (by intros; omega) (by intros; omega) (by intros; omega) (fun _ _ _ _ => br_f (by decide) (br_f (by decide) (br_f (by decide) (br_f (by decide) (br_f (by decide) (br_f (by decide) (br_t rfl (Y _ (tk_st (4 * p + cw s / 32 % 4) (-1) (by omega) (br_f (by decide) (br_f (by decide) (tk_y330 hp hsp (by omega) h))))))))))))))⟩
  by_cases e : rg (4 * p + cw s / 128) = nI p
  · exact N (fun post h => br_f (by decide) (br_f (by decide) (br_f (by decide) (br_f (by decide) (br_t rfl (br_t e (tk_st (4 * p + cw s / 32 % 4) (-1) (by omega) h))))))) (fun post h => br_t e h)
  · obtain ⟨r, c, X1, Y1⟩ : ∃ r : Int32, ((r = 1 ∧ ∃ w, w < 6 ∧ rg (4 * p + cw s / 128) = nI w ∧ (st w = 1 ∨ st w = 2)) ∨ r = 0) ∧ (∀ post : Int32 → Prop, post r → wpX_isAlive post (tk_oi q.head?, tk_oi q.getLast?, nI hd, -1, ex + 1, nI pr, lv, tk_nf (tk_op cw), tk_nf (tk_fA cw), tk_nf (tk_fB cw), fN, tk_nf st, upd sp p (nI (s + 1)), pa, rg, tk_nf ds, bh, tk_nf ps, tk_nf pk, pw, tk_nf rd, tk_nf wr, tk_nf en, tk_nf sh, lt, fr, tk_nf ms, mv, ol) (rg (4 * p + cw s / 128))) ∧ (∀ post : Int32 → Prop, post r → wpY_isLive post (nI q.length, ex + 1, nI pr, tk_nf cw, fN, tk_nf st, pm, sp, rg, tk_nf ds, me, wo, fi, qa, ol) (rg (4 * p + cw s / 128))) := tk_alive hJ.2.2.2.2.2.2 (rg (4 * p + cw s / 128))
    rcases c with ⟨c, w, w1, w2, w3⟩ | c
    · have hwp : w ≠ p := by
        intro z
        subst z
        exact e w2
      obtain ⟨st', ds', pk', rd', wr', en', sh', ms', pa', pm', bh', qa', ⟨J', S', f1, fq'⟩, X, Y⟩ : ∃ (st' ds' pk' rd' wr' en' sh' ms' : Nat → Nat) (pa' pm' bh' qa' : Nat → Int32), (tk_J (tk_rm w q) hd st' ds' ps pk' rd' wr' en' sh' ms' pa' pm' bh' qa' pw wo fi fr mv me ∧ tk_S st' (upd (upd sp w (-3)) p (nI (s + 1))) ∧ st' p = 1 ∧ p ∉ tk_rm w q) ∧ (∀ post : SX → Prop, post (tk_oi (tk_rm w q).head?, tk_oi (tk_rm w q).getLast?, nI hd, -1, ex + 1, nI pr, lv, tk_nf (tk_op cw), tk_nf (tk_fA cw), tk_nf (tk_fB cw), fN, tk_nf st', upd (upd sp w (-3)) p (nI (s + 1)), pa', rg, tk_nf ds', bh', tk_nf ps, tk_nf pk', pw, tk_nf rd', tk_nf wr', tk_nf en', tk_nf sh', lt, fr, tk_nf ms', mv, ol) → wpX_end post (tk_oi q.head?, tk_oi q.getLast?, nI hd, -1, ex + 1, nI pr, lv, tk_nf (tk_op cw), tk_nf (tk_fA cw), tk_nf (tk_fB cw), fN, tk_nf st, upd sp p (nI (s + 1)), pa, rg, tk_nf ds, bh, tk_nf ps, tk_nf pk, pw, tk_nf rd, tk_nf wr, tk_nf en, tk_nf sh, lt, fr, tk_nf ms, mv, ol) (nI w) (-3)) ∧ (∀ post : SY → Prop, post (nI (tk_rm w q).length, ex + 1, nI pr, tk_nf cw, fN, tk_nf st', pm', upd sp w (-3), rg, tk_nf ds', me, wo, fi, qa', ol) → wpY_end post (nI q.length, ex + 1, nI pr, tk_nf cw, fN, tk_nf st, pm, sp, rg, tk_nf ds, me, wo, fi, qa, ol) (nI w) (-3)) := tk_endo hp w1 hwp w3 h1 hpq hJ hS hb hsp
      subst c
      have hsp' : upd sp w (-3) p = nI s := by rw [pk_un (fun z => hwp z.symm)]; exact hsp
      refine ⟨1, (tk_oi (tk_rm w q).head?, tk_oi (tk_rm w q).getLast?, nI hd, -1, ex + 1, nI pr, lv, tk_nf (tk_op cw), tk_nf (tk_fA cw), tk_nf (tk_fB cw), fN, tk_nf st', upd (upd sp w (-3)) p (nI (s + 1)), pa', upd rg (4 * p + cw s / 32 % 4) 0, tk_nf ds', bh', tk_nf ps, tk_nf pk', pw, tk_nf rd', tk_nf wr', tk_nf en', tk_nf sh', lt, fr, tk_nf ms', mv, ol), (nI (tk_rm w q).length, ex + 1, nI pr, tk_nf cw, fN, tk_nf st', pm', upd (upd sp w (-3)) p (nI (s + 1)), upd rg (4 * p + cw s / 32 % 4) 0, tk_nf ds', me, wo, fi, qa', ol), tk_in J' S' (by omega) ⟨fq', Or.inl ⟨f1, by rw [ho]; rfl⟩⟩, fun post h => tk_xx (o := 24) hp hs ho rfl rfl hcw (by intros; omega) (by intros; omega) (by intros; omega) (by intros; omega) (by intros; omega) (by intros; omega) (by intros; omega) (by intros; omega) (by intros; omega) (fun _ _ _ _ _ _ => br_f (by decide) (br_f (by decide) (br_f (by decide) (br_f (by decide) (br_t rfl (br_f e (X1 _ (br_f (by decide) ?_)))))))), fun post h => tk_yx (o := 24) hp hs hsp ho rfl rfl hcw (by intros; omega) (by intros; omega) (by intros; omega) (fun _ _ => tk_y231 (by omega) (by omega) (tk_yc hp ha hbb (by omega) (by intros; omega) (by intros; omega) (by intros; omega) (by intros; omega) (fun _ _ _ _ => br_f (by decide) (br_f (by decide) (br_f (by decide) (br_f (by decide) (br_f (by decide) (br_f (by decide) (br_t rfl (br_f e (Y1 _ (br_f (by decide) ?_))))))))))))⟩
      · rw [w2]
        exact X _ (tk_st (4 * p + cw s / 32 % 4) 0 (by omega) h)
      · rw [w2]
        exact Y _ (tk_st (4 * p + cw s / 32 % 4) 0 (by omega) (br_f (by decide) (br_f (by decide) (tk_y330 hp hsp' (by omega) h))))
    · subst c
      exact N (fun post h => br_f (by decide) (br_f (by decide) (br_f (by decide) (br_f (by decide) (br_t rfl (br_f e (X1 _ (br_t rfl (tk_st (4 * p + cw s / 32 % 4) (-1) (by omega) h))))))))) (fun post h => br_f e (Y1 _ (br_t rfl h)))
theorem tk_ix13 (p c a : Nat) : nI (4 * p + a) + 4 * (nI c - nI p) = nI (4 * c + a) := by
  rw [← tk_i4, ← tk_i4]
  grind
theorem tk_e13 (hp : p < 6) (hs : s < 64) (hsp : sp p = nI s) (hcw : cw s < 512) (hJ : tk_J q hd st ds ps pk rd wr en sh ms pa pm bh qa pw wo fi fr mv me) (hS : tk_S st sp) (hb : pr ≤ b) (h1 : st p = 1) (hpq : p ∉ q) (ho : cw s % 32 = 13) : tk_O (b + 1) p (if cw s % 32 = 20 then 0 else 1) cw (fun post => wpX_execute post (tk_oi q.head?, tk_oi q.getLast?, nI hd, -1, ex + 1, nI pr, lv, tk_nf (tk_op cw), tk_nf (tk_fA cw), tk_nf (tk_fB cw), fN, tk_nf st, sp, pa, rg, tk_nf ds, bh, tk_nf ps, tk_nf pk, pw, tk_nf rd, tk_nf wr, tk_nf en, tk_nf sh, lt, fr, tk_nf ms, mv, ol) (nI p) (nI s)) (fun post => wpY_execute post (nI q.length, ex, nI pr, tk_nf cw, fN, tk_nf st, pm, sp, rg, tk_nf ds, me, wo, fi, qa, ol) (nI p)) := by
  have ha : cw s / 32 % 4 < 4 := by omega
  have hbb : cw s / 128 < 4 := by omega
  have K : ((∀ post : Int32 → SX → Prop, post (-2) (tk_oi q.head?, tk_oi q.getLast?, nI hd, -1, ex + 1, nI pr, lv, tk_nf (tk_op cw), tk_nf (tk_fA cw), tk_nf (tk_fB cw), fN, tk_nf st, upd sp p (nI (s + 1)), pa, rg, tk_nf ds, bh, tk_nf ps, tk_nf pk, pw, tk_nf rd, tk_nf wr, tk_nf en, tk_nf sh, lt, fr, tk_nf ms, mv, ol) → wpX_fork post (tk_oi q.head?, tk_oi q.getLast?, nI hd, -1, ex + 1, nI pr, lv, tk_nf (tk_op cw), tk_nf (tk_fA cw), tk_nf (tk_fB cw), fN, tk_nf st, upd sp p (nI (s + 1)), pa, rg, tk_nf ds, bh, tk_nf ps, tk_nf pk, pw, tk_nf rd, tk_nf wr, tk_nf en, tk_nf sh, lt, fr, tk_nf ms, mv, ol) (nI p)) ∧ (∀ post : Int32 → SY → Prop, post (-2) (nI q.length, ex + 1, nI pr, tk_nf cw, fN, tk_nf st, pm, sp, rg, tk_nf ds, me, wo, fi, qa, ol) → wpY_fork post (nI q.length, ex + 1, nI pr, tk_nf cw, fN, tk_nf st, pm, sp, rg, tk_nf ds, me, wo, fi, qa, ol) (nI p))) ∨ ∃ (c hd' : Nat) (ds' rd' wr' en' sh' ms' : Nat → Nat) (rg' bh' lt' fr' mv' me' : Nat → Int32), (c < 6 ∧ c ≠ p ∧ st c = 0 ∧ p ∉ q ++ [c] ∧ tk_J (q ++ [c]) hd' (tk_nu st c 1) ds' ps pk rd' wr' en' sh' ms' (upd pa c (nI p)) (upd pm c (nI p)) bh' (upd qa q.length (nI c)) pw wo fi fr' mv' me') ∧ (∀ post : Int32 → SX → Prop, post (nI c) (tk_oi (q ++ [c]).head?, tk_oi (q ++ [c]).getLast?, nI hd', -1, ex + 1, nI pr, lv, tk_nf (tk_op cw), tk_nf (tk_fA cw), tk_nf (tk_fB cw), fN, tk_nf (tk_nu st c 1), upd (upd sp p (nI (s + 1))) c ((upd sp p (nI (s + 1))) p), upd pa c (nI p), rg', tk_nf ds', bh', tk_nf ps, tk_nf pk, pw, tk_nf rd', tk_nf wr', tk_nf en', tk_nf sh', lt', fr', tk_nf ms', mv', ol) → wpX_fork post (tk_oi q.head?, tk_oi q.getLast?, nI hd, -1, ex + 1, nI pr, lv, tk_nf (tk_op cw), tk_nf (tk_fA cw), tk_nf (tk_fB cw), fN, tk_nf st, upd sp p (nI (s + 1)), pa, rg, tk_nf ds, bh, tk_nf ps, tk_nf pk, pw, tk_nf rd, tk_nf wr, tk_nf en, tk_nf sh, lt, fr, tk_nf ms, mv, ol) (nI p)) ∧ (∀ post : Int32 → SY → Prop, post (nI c) (nI (q ++ [c]).length, ex + 1, nI pr, tk_nf cw, fN, tk_nf (tk_nu st c 1), upd pm c (nI p), upd sp c (sp p + 1), rg', tk_nf ds', me', wo, fi, upd qa q.length (nI c), ol) → wpY_fork post (nI q.length, ex + 1, nI pr, tk_nf cw, fN, tk_nf st, pm, sp, rg, tk_nf ds, me, wo, fi, qa, ol) (nI p)) := tk_fork hp h1 hpq hJ
  rcases K with ⟨X, Y⟩ | ⟨c, hd', ds', rd', wr', en', sh', ms', rg', bh', lt', fr', mv', me', ⟨c1, hcp, c3, hpq', J'⟩, X, Y⟩
  · exact ⟨1, (tk_oi q.head?, tk_oi q.getLast?, nI hd, -1, ex + 1, nI pr, lv, tk_nf (tk_op cw), tk_nf (tk_fA cw), tk_nf (tk_fB cw), fN, tk_nf st, upd sp p (nI (s + 1)), pa, upd rg (4 * p + cw s / 32 % 4) (-2), tk_nf ds, bh, tk_nf ps, tk_nf pk, pw, tk_nf rd, tk_nf wr, tk_nf en, tk_nf sh, lt, fr, tk_nf ms, mv, ol), (nI q.length, ex + 1, nI pr, tk_nf cw, fN, tk_nf st, pm, upd sp p (nI (s + 1)), upd rg (4 * p + cw s / 32 % 4) (-2), tk_nf ds, me, wo, fi, qa, ol), tk_in hJ (tk_S_u hS (by omega)) (by omega) ⟨hpq, Or.inl ⟨h1, by rw [ho]; rfl⟩⟩, fun post h => tk_xx (o := 13) hp hs ho rfl rfl hcw (by intros; omega) (by intros; omega) (by intros; omega) (by intros; omega) (by intros; omega) (by intros; omega) (by intros; omega) (by intros; omega) (by intros; omega) (fun _ _ _ _ _ _ => br_t rfl (X _ (br_t (by decide) (tk_st (4 * p + cw s / 32 % 4) (-2) (by omega) h)))), fun post h => tk_yx (o := 13) hp hs hsp ho rfl rfl hcw (by intros; omega) (by intros; omega) (by intros; omega) (fun _ _ => tk_y231 (by omega) (by omega) (tk_yc hp ha hbb (by omega) (by intros; omega) (by intros; omega) (by intros; omega) (fun _ => Y _ (br_f (by decide) (br_f (by decide) (br_f (by decide) (br_f (by decide) (br_f (by decide) (br_f (by decide) (br_f (by decide) (tk_st (4 * p + cw s / 32 % 4) (-2) (by omega) (br_t rfl (br_t (by decide) (br_f (by decide) (tk_y330 hp hsp (by omega) h))))))))))))) (by intros; omega)))⟩
  · have hsp' : upd sp c (sp p + 1) p = nI s := by rw [pk_un (fun z => hcp z.symm)]; exact hsp
    have e1 : (upd sp p (nI (s + 1))) p = nI (s + 1) := pk_us
    have e2 : upd (upd sp c (sp p + 1)) p (nI (s + 1)) = upd (upd sp p (nI (s + 1))) c (nI (s + 1)) := by rw [hsp, nI_1, tk_uc hcp]
    have e3 : upd (upd rg' (4 * p + cw s / 32 % 4) (nI c)) (4 * c + cw s / 32 % 4) (-1) = upd (upd rg' (4 * c + cw s / 32 % 4) (-1)) (4 * p + cw s / 32 % 4) (nI c) := tk_uc (by omega)
    rw [e1] at X
    have hc0 : ¬ nI c < 0 := nI_pos (by omega)
    refine ⟨1, (tk_oi (q ++ [c]).head?, tk_oi (q ++ [c]).getLast?, nI hd', -1, ex + 1, nI pr, lv, tk_nf (tk_op cw), tk_nf (tk_fA cw), tk_nf (tk_fB cw), fN, tk_nf (tk_nu st c 1), upd (upd sp p (nI (s + 1))) c (nI (s + 1)), upd pa c (nI p), upd (upd rg' (4 * c + cw s / 32 % 4) (-1)) (4 * p + cw s / 32 % 4) (nI c), tk_nf ds', bh', tk_nf ps, tk_nf pk, pw, tk_nf rd', tk_nf wr', tk_nf en', tk_nf sh', lt', fr', tk_nf ms', mv', ol), (nI (q ++ [c]).length, ex + 1, nI pr, tk_nf cw, fN, tk_nf (tk_nu st c 1), upd pm c (nI p), upd (upd sp p (nI (s + 1))) c (nI (s + 1)), upd (upd rg' (4 * c + cw s / 32 % 4) (-1)) (4 * p + cw s / 32 % 4) (nI c), tk_nf ds', me', wo, fi, upd qa q.length (nI c), ol), tk_in J' ?_ (by omega) ⟨hpq', Or.inl ⟨by rw [tk_nun (fun z => hcp z.symm)]; exact h1, by rw [ho]; rfl⟩⟩, fun post h => tk_xx (o := 13) hp hs ho rfl rfl hcw (by intros; omega) (by intros; omega) (by intros; omega) (by intros; omega) (by intros; omega) (by intros; omega) (by intros; omega) (by intros; omega) (by intros; omega) (fun _ _ _ _ _ _ => br_t rfl (X _ (br_f hc0 (tk_st (4 * c + cw s / 32 % 4) (-1) (by omega) (tk_st (4 * p + cw s / 32 % 4) (nI c) (by omega) h) (tk_ix13 p c _))))), fun post h => tk_yx (o := 13) hp hs hsp ho rfl rfl hcw (by intros; omega) (by intros; omega) (by intros; omega) (fun _ _ => tk_y231 (by omega) (by omega) (tk_yc hp ha hbb (by omega) (by intros; omega) (by intros; omega) (by intros; omega) (fun _ => Y _ (br_f (by decide) (br_f (by decide) (br_f (by decide) (br_f (by decide) (br_f (by decide) (br_f (by decide) (br_f (by decide) (tk_st (4 * p + cw s / 32 % 4) (nI c) (by omega) (br_t rfl (br_f hc0 (tk_st (4 * c + cw s / 32 % 4) (-1) (by omega) (br_f (by decide) (tk_y330 hp hsp' (by omega) ?_)) (tk_i4 c _))))))))))))) (by intros; omega)))⟩
    · apply tk_S_u _ (by rw [tk_nus]; omega)
      apply tk_S_u _ (by rw [tk_nun (fun z => hcp z.symm)]; omega)
      intro j hj h2
      have z : j ≠ c := by
        intro z
        subst z
        rw [tk_nus] at h2
        omega
      rw [tk_nun z] at h2
      exact hS j hj h2
    · rw [e2, e3]
      exact h
end TKO2
end
section
section TKT
variable {q : List Nat} {hd pr b p s : Nat} {ex : Int64} {lv : Int32} {fN sp pa rg bh pw lt fr mv ol : Nat → Int32} {cw st ds ps pk rd wr en sh ms : Nat → Nat}
variable {pm me wo fi qa : Nat → Int32}
theorem tk_ex (hp : p < 6) (hs : s < 64) (hsp : sp p = nI s) (hcw : cw s < 512) (hJ : tk_J q hd st ds ps pk rd wr en sh ms pa pm bh qa pw wo fi fr mv me) (hS : tk_S st sp) (hb : pr ≤ b) (h1 : st p = 1) (hpq : p ∉ q) (hB : b < 2 ^ 30) (h24 : cw s % 32 ≤ 24) (hw : cw s % 32 = 17 → tk_eo ds p (rg (4 * p + cw s / 128)) ≠ 0 → tk_eo ds p (rg (4 * p + cw s / 128)) % 2 = 0 → 0 < tk_cn ds (tk_eo ds p (rg (4 * p + cw s / 128)) - 1) 24 → pk ((tk_eo ds p (rg (4 * p + cw s / 128)) - 1) / 2) ≠ 4) : tk_O (b + 1) p (if cw s % 32 = 20 then 0 else 1) cw (fun post => wpX_execute post (tk_oi q.head?, tk_oi q.getLast?, nI hd, -1, ex + 1, nI pr, lv, tk_nf (tk_op cw), tk_nf (tk_fA cw), tk_nf (tk_fB cw), fN, tk_nf st, sp, pa, rg, tk_nf ds, bh, tk_nf ps, tk_nf pk, pw, tk_nf rd, tk_nf wr, tk_nf en, tk_nf sh, lt, fr, tk_nf ms, mv, ol) (nI p) (nI s)) (fun post => wpY_execute post (nI q.length, ex, nI pr, tk_nf cw, fN, tk_nf st, pm, sp, rg, tk_nf ds, me, wo, fi, qa, ol) (nI p)) := by
  by_cases c0 : cw s % 32 = 0
  · exact tk_e0 hp hs hsp hcw hJ hS hb h1 hpq c0
  by_cases c7 : cw s % 32 ≤ 7
  · exact tk_e7 hp hs hsp hcw hJ hS hb h1 hpq (by omega) c7
  by_cases c8 : cw s % 32 = 8
  · exact tk_e8 hp hs hsp hcw hJ hS hb h1 hpq c8
  by_cases c9 : cw s % 32 = 9
  · exact tk_e9 hp hs hsp hcw hJ hS hb h1 hpq c9
  by_cases c12 : cw s % 32 ≤ 12
  · exact tk_e12 hp hs hsp hcw hJ hS hb h1 hpq (by omega) c12
  by_cases c13 : cw s % 32 = 13
  · exact tk_e13 hp hs hsp hcw hJ hS hb h1 hpq c13
  by_cases c14 : cw s % 32 = 14
  · exact tk_e14 hp hs hsp hcw hJ hS hb h1 hpq c14
  by_cases c15 : cw s % 32 = 15
  · exact tk_e15 hp hs hsp hcw hJ hS hb h1 hpq c15
  by_cases c16 : cw s % 32 = 16
  · exact tk_e16 hp hs hsp hcw hJ hS hb h1 hpq c16
  by_cases c17 : cw s % 32 = 17
  · exact tk_e17 hp hs hsp hcw hJ hS hb h1 hpq c17 (hw c17)
  by_cases c18 : cw s % 32 = 18
  · exact tk_e18 hp hs hsp hcw hJ hS hb h1 hpq c18
  by_cases c19 : cw s % 32 = 19
  · exact tk_e19 hp hs hsp hcw hJ hS hb h1 hpq c19
  by_cases c20 : cw s % 32 = 20
  · exact tk_e20 hp hs hsp hcw hJ hS hb h1 hpq c20
  by_cases c21 : cw s % 32 = 21
  · exact tk_e21 hp hs hsp hcw hJ hS hb h1 hpq hB c21
  by_cases c22 : cw s % 32 = 22
  · exact tk_e22 hp hs hsp hcw hJ hS hb h1 hpq c22
  by_cases c23 : cw s % 32 = 23
  · exact tk_e23 hp hs hsp hcw hJ hS hb h1 hpq c23
  · exact tk_e24 hp hs hsp hcw hJ hS hb h1 hpq (by omega)
/-- loops over whole states -/
def tk_xw4 (post : SX → Prop) (p n : Nat) (g : Int32) (d : Nat) (u : SX) : Prop := wX_work_4 post (nI p) n g (nI d) u.1 u.2.1 u.2.2.1 u.2.2.2.1 u.2.2.2.2.1 u.2.2.2.2.2.1 u.2.2.2.2.2.2.1 u.2.2.2.2.2.2.2.1 u.2.2.2.2.2.2.2.2.1 u.2.2.2.2.2.2.2.2.2.1 u.2.2.2.2.2.2.2.2.2.2.1 u.2.2.2.2.2.2.2.2.2.2.2.1 u.2.2.2.2.2.2.2.2.2.2.2.2.1 u.2.2.2.2.2.2.2.2.2.2.2.2.2.1 u.2.2.2.2.2.2.2.2.2.2.2.2.2.2.1 u.2.2.2.2.2.2.2.2.2.2.2.2.2.2.2.1 u.2.2.2.2.2.2.2.2.2.2.2.2.2.2.2.2.1 u.2.2.2.2.2.2.2.2.2.2.2.2.2.2.2.2.2.1 u.2.2.2.2.2.2.2.2.2.2.2.2.2.2.2.2.2.2.1 u.2.2.2.2.2.2.2.2.2.2.2.2.2.2.2.2.2.2.2.1 u.2.2.2.2.2.2.2.2.2.2.2.2.2.2.2.2.2.2.2.2.1 u.2.2.2.2.2.2.2.2.2.2.2.2.2.2.2.2.2.2.2.2.2.1 u.2.2.2.2.2.2.2.2.2.2.2.2.2.2.2.2.2.2.2.2.2.2.1 u.2.2.2.2.2.2.2.2.2.2.2.2.2.2.2.2.2.2.2.2.2.2.2.1 u.2.2.2.2.2.2.2.2.2.2.2.2.2.2.2.2.2.2.2.2.2.2.2.2.1 u.2.2.2.2.2.2.2.2.2.2.2.2.2.2.2.2.2.2.2.2.2.2.2.2.2.1 u.2.2.2.2.2.2.2.2.2.2.2.2.2.2.2.2.2.2.2.2.2.2.2.2.2.2.1 u.2.2.2.2.2.2.2.2.2.2.2.2.2.2.2.2.2.2.2.2.2.2.2.2.2.2.2.1 u.2.2.2.2.2.2.2.2.2.2.2.2.2.2.2.2.2.2.2.2.2.2.2.2.2.2.2.2
def tk_yt16 (post : SY → Prop) (p n : Nat) (g : Int32) (d : Nat) (v : SY) : Prop := wY_turn_16 post (nI p) n g (nI d) v.1 v.2.1 v.2.2.1 v.2.2.2.1 v.2.2.2.2.1 v.2.2.2.2.2.1 v.2.2.2.2.2.2.1 v.2.2.2.2.2.2.2.1 v.2.2.2.2.2.2.2.2.1 v.2.2.2.2.2.2.2.2.2.1 v.2.2.2.2.2.2.2.2.2.2.1 v.2.2.2.2.2.2.2.2.2.2.2.1 v.2.2.2.2.2.2.2.2.2.2.2.2.1 v.2.2.2.2.2.2.2.2.2.2.2.2.2.1 v.2.2.2.2.2.2.2.2.2.2.2.2.2.2
def tk_t53 (post : SY → Prop) (p : Nat) (v : SY) : Prop := wY_turn_53 post (nI p) v.1 v.2.1 v.2.2.1 v.2.2.2.1 v.2.2.2.2.1 v.2.2.2.2.2.1 v.2.2.2.2.2.2.1 v.2.2.2.2.2.2.2.1 v.2.2.2.2.2.2.2.2.1 v.2.2.2.2.2.2.2.2.2.1 v.2.2.2.2.2.2.2.2.2.2.1 v.2.2.2.2.2.2.2.2.2.2.2.1 v.2.2.2.2.2.2.2.2.2.2.2.2.1 v.2.2.2.2.2.2.2.2.2.2.2.2.2.1 v.2.2.2.2.2.2.2.2.2.2.2.2.2.2
theorem tk_yt0 {post : SY → Prop} {n d : Nat} {v : SY} (h : tk_t53 post p v) : tk_yt16 post p (n + 1) 0 d v := br_c (fun _ => h) (fun _ => br_t rfl h)
/-- X: after an instruction -/
theorem tk_xaft {T : List Nat → (Nat → Nat) → Prop} {post : SX → Prop} {n d : Nat} {r : Int32} (hp : p < 6) (hs : s < 64) (hcw : cw s < 512) (hT : ∀ q st, T q st → p ∉ q ∧ ((st p = 1 ∧ r = (if cw s % 32 = 20 then 0 else 1)) ∨ (st p ≠ 1 ∧ r = 0))) {u : SX} {v : SY} (R : tk_Rel b T cw u v) : tk_xw4 post p n r (d + 1) u → (match u with | (fq, lq, hd, pn, ex, pr, lv, op, fA, fB, fN, st, sp, pa, rg, ds, bh, ps, pk, pw, rd, wr, en, sh, lt, fr, ms, mv, ol) => vp_in (nI p) 6 ∧ ((st (nI p).toNatClampNeg = 1 → (vp_in (nI s) 64 ∧ ((op (nI s).toNatClampNeg = 20 → (∀ x : Int32, x = nI d + 1 → wX_work_4 post (nI p) n 0 x fq lq hd pn ex pr lv op fA fB fN st sp pa rg ds bh ps pk pw rd wr en sh lt fr ms mv ol)) ∧ (¬ op (nI s).toNatClampNeg = 20 → (∀ x : Int32, x = nI d + 1 → wX_work_4 post (nI p) n 1 x fq lq hd pn ex pr lv op fA fB fN st sp pa rg ds bh ps pk pw rd wr en sh lt fr ms mv ol))))) ∧ (¬ st (nI p).toNatClampNeg = 1 → (∀ x : Int32, x = nI d + 1 → wX_work_4 post (nI p) n 0 x fq lq hd pn ex pr lv op fA fB fN st sp pa rg ds bh ps pk pw rd wr en sh lt fr ms mv ol)))) := by
  refine tk_el (P := fun u v => tk_xw4 post p n r (d + 1) u → (match u with | (fq, lq, hd, pn, ex, pr, lv, op, fA, fB, fN, st, sp, pa, rg, ds, bh, ps, pk, pw, rd, wr, en, sh, lt, fr, ms, mv, ol) => vp_in (nI p) 6 ∧ ((st (nI p).toNatClampNeg = 1 → (vp_in (nI s) 64 ∧ ((op (nI s).toNatClampNeg = 20 → (∀ x : Int32, x = nI d + 1 → wX_work_4 post (nI p) n 0 x fq lq hd pn ex pr lv op fA fB fN st sp pa rg ds bh ps pk pw rd wr en sh lt fr ms mv ol)) ∧ (¬ op (nI s).toNatClampNeg = 20 → (∀ x : Int32, x = nI d + 1 → wX_work_4 post (nI p) n 1 x fq lq hd pn ex pr lv op fA fB fN st sp pa rg ds bh ps pk pw rd wr en sh lt fr ms mv ol))))) ∧ (¬ st (nI p).toNatClampNeg = 1 → (∀ x : Int32, x = nI d + 1 → wX_work_4 post (nI p) n 0 x fq lq hd pn ex pr lv op fA fB fN st sp pa rg ds bh ps pk pw rd wr en sh lt fr ms mv ol))))) ?_ R
  intro q hd pr st ds ps pk rd wr en sh ms ex lv fN sp pa rg bh pw lt fr mv ol pm me wo fi qa hJ hS hb hT' h
  have h3 := hJ.2.2.2.2.2.2 p
  obtain ⟨_, c⟩ := hT q st hT'
  have e20 : tk_nf (tk_op cw) (nI s).toNatClampNeg = nI (cw s % 32) := tk_rn (tk_op cw) s
  refine And.intro (pk_in p 6 hp) (pk_eq (st p) 1 (fun e => And.intro (pk_in s 64 hs) (pk_eq (cw s % 32) 20 (fun e2 => nm_r (nI_1 d) ?_) (fun e2 => nm_r (nI_1 d) ?_) e20)) (fun e => nm_r (nI_1 d) ?_) (tk_rn st p))
  · have : r = 0 := by
      rcases c with c | c
      · rw [c.2, if_pos e2]
      · exact c.2
    rw [this] at h
    exact h
  · have : r = 1 := by
      rcases c with c | c
      · rw [c.2, if_neg e2]
      · exact absurd e c.1
    rw [this] at h
    exact h
  · have : r = 0 := by
      rcases c with c | c
      · exact absurd c.1 e
      · exact c.2
    rw [this] at h
    exact h
theorem tk_J_2 {x : Nat} (hx : x = 1 ∨ x = 2) (hal : st p = 1 ∨ st p = 2) (hpq : p ∉ q) (hJ : tk_J q hd st ds ps pk rd wr en sh ms pa pm bh qa pw wo fi fr mv me) : tk_J q hd (tk_nu st p x) ds ps pk rd wr en sh ms pa pm bh qa pw wo fi fr mv me := by
  obtain ⟨⟨Q1, Q2, Q3, Q4⟩, hP, hD, hM, hC, hZ, hl⟩ := hJ
  have ne : ∀ j, tk_nu st p x j = st j ∨ (j = p ∧ tk_nu st p x j = x) := by
    intro j
    by_cases e : j = p
    · subst e; exact Or.inr ⟨rfl, tk_nus⟩
    · exact Or.inl (tk_nun e)
  refine ⟨⟨Q1, fun y hy => ?_, Q3, Q4⟩, fun j hj hn => ?_, hD, hM, fun j hj ha => ?_, fun j hj n1 n2 => ?_, fun j => ?_⟩
  · have hyp : y ≠ p := by
      intro e
      subst e
      exact hpq hy
    rw [tk_nun hyp]; exact Q2 y hy
  · rcases ne j with e | ⟨e, _⟩
    · rw [e] at hn; exact hP j hj hn
    · subst e; exact hP j hj (by omega)
  · rcases ne j with e | ⟨e, _⟩
    · rw [e] at ha; exact hC j hj ha
    · subst e; exact hC j hj hal
  · rcases ne j with e | ⟨_, e⟩
    · rw [e] at n1 n2; exact hZ j hj n1 n2
    · omega
  · have := hl j
    rcases ne j with e | ⟨_, e⟩ <;> omega
theorem tk_J_j {bh' : Nat → Int32} (hp : p < 6) (hal : st p = 1 ∨ st p = 2) (hpq : p ∉ q) (hJ : tk_J q hd st ds ps pk rd wr en sh ms pa pm bh qa pw wo fi fr mv me) (hc : tk_ch bh' (q ++ [p])) : tk_J (q ++ [p]) hd (tk_nu st p 1) ds ps pk rd wr en sh ms pa pm bh' (upd qa q.length (nI p)) pw wo fi fr mv me := by
  have h2 := tk_J_2 (x := 1) (Or.inl rfl) hal hpq hJ
  exact ⟨tk_Q_a hp hJ.1 hpq hc, h2.2⟩
theorem tk_ywx {post : Int32 → Prop} (hp : p < 6) (hx : sp p < 0 ∨ (¬ sp p < 0 ∧ 63 < sp p)) (h : post 0) : wpY_waits post (nI q.length, ex, nI pr, tk_nf cw, fN, tk_nf st, pm, sp, rg, tk_nf ds, me, wo, fi, qa, ol) (nI p) := by
  refine And.intro (pk_in p 6 hp) (tk_yin ?_)
  rw [tk_ri (a := sp) p]
  rcases hx with hx | ⟨hx, hx2⟩
  · rw [if_pos hx]; exact br_t rfl h
  · rw [if_neg hx, if_pos hx2]; exact br_t rfl h
theorem tk_yxx {post : Int32 → SY → Prop} (hp : p < 6) (hx : sp p < 0 ∨ (¬ sp p < 0 ∧ 63 < sp p)) (h : wpY_end (fun u => post 0 u) (nI q.length, ex + 1, nI pr, tk_nf cw, fN, tk_nf st, pm, sp, rg, tk_nf ds, me, wo, fi, qa, ol) (nI p) (-4)) : wpY_execute post (nI q.length, ex, nI pr, tk_nf cw, fN, tk_nf st, pm, sp, rg, tk_nf ds, me, wo, fi, qa, ol) (nI p) := by
  refine nm_e (And.intro (pk_in p 6 hp) (tk_yin ?_))
  rw [tk_ri (a := sp) p]
  rcases hx with hx | ⟨hx, hx2⟩
  · rw [if_pos hx]; exact br_t rfl h
  · rw [if_neg hx, if_pos hx2]; exact br_t rfl h
theorem tk_r64 (x : Int32) : (x < 0 ∨ (¬ x < 0 ∧ 63 < x)) ∨ ∃ j : Nat, j < 64 ∧ x = nI j := by
  by_cases h : x < 0
  · exact Or.inl (Or.inl h)
  · obtain ⟨j, hj, rfl⟩ := nI_of h
    by_cases c : j < 64
    · exact Or.inr ⟨j, c, rfl⟩
    · exact Or.inl (Or.inr ⟨h, nI_lt (a := 63) (by omega) hj⟩)
/-- a turn's work, for both -/
theorem tk_work (hp : p < 6) (hcw : ∀ i, cw i < 512 ∧ cw i % 32 ≤ 24) : ∀ (m d : Nat), d + m = 3 → ∀ b, b + m < 2 ^ 30 → ∀ (g : Int32) (u : SX) (v : SY), (g = 0 ∨ g = 1) → tk_Rel b (fun q st => p ∉ q ∧ (g = 1 → st p = 1)) cw u v → ∃ (u' : SX) (v' : SY), tk_Rel (b + m) (fun q _ => p ∉ q) cw u' v' ∧ (∀ post : SX → Prop, post u' → tk_xw4 post p (m + 1) g d u) ∧ (∀ post : SY → Prop, tk_t53 post p v' → tk_yt16 post p (m + 1) g d v) := by
  intro m
  induction m with
  | zero =>
    intro d hd b hb g u v hg R
    obtain rfl : d = 3 := by omega
    have hl : (3 : Int32) ≤ nI 3 := nI_le (a := 3) (b := 3) (by omega) (by decide)
    exact ⟨u, v, tk_mono R (by omega) (fun _ _ h => h.1), fun post h => br_t hl h, fun post h => br_t hl h⟩
  | succ m ih =>
    intro d hd b hb g u v hg R
    have hg3 := nI_ge (a := d) (b := 3) (by omega) (by decide)
    rcases hg with hg | hg
    · subst hg
      exact ⟨u, v, tk_mono R (by omega) (fun _ _ h => h.1), fun post h => br_f hg3 (br_t rfl h), fun post h => br_f hg3 (br_t rfl h)⟩
    · subst hg
      refine tk_el (P := fun u v => ∃ (u' : SX) (v' : SY), tk_Rel (b + (m + 1)) (fun q _ => p ∉ q) cw u' v' ∧ (∀ post : SX → Prop, post u' → tk_xw4 post p (m + 1 + 1) 1 d u) ∧ (∀ post : SY → Prop, tk_t53 post p v' → tk_yt16 post p (m + 1 + 1) 1 d v)) ?_ R
      intro q hd pr st ds ps pk rd wr en sh ms ex lv fN sp pa rg bh pw lt fr mv ol pm me wo fi qa hJ hS hbb hT
      obtain ⟨hpq, h1⟩ := hT
      have h1 := h1 rfl
      rcases tk_r64 (sp p) with hx | ⟨s, hs, hsp⟩
      · obtain ⟨u1, v1, R1, X, Y⟩ : ∃ (u : SX) (v : SY), tk_Rel b (fun q st => p ∉ q ∧ st p ≠ 1 ∧ st p ≠ 2) cw u v ∧ (∀ post : SX → Prop, post u → wpX_end post (tk_oi q.head?, tk_oi q.getLast?, nI hd, -1, ex + 1, nI pr, lv, tk_nf (tk_op cw), tk_nf (tk_fA cw), tk_nf (tk_fB cw), fN, tk_nf st, sp, pa, rg, tk_nf ds, bh, tk_nf ps, tk_nf pk, pw, tk_nf rd, tk_nf wr, tk_nf en, tk_nf sh, lt, fr, tk_nf ms, mv, ol) (nI p) (-4)) ∧ (∀ post : SY → Prop, post v → wpY_end post (nI q.length, ex + 1, nI pr, tk_nf cw, fN, tk_nf st, pm, sp, rg, tk_nf ds, me, wo, fi, qa, ol) (nI p) (-4)) := tk_endp hp (Or.inl h1) hJ hS hbb (fun j hj => rfl)
        refine ⟨u1, v1, tk_mono R1 (by omega) (fun _ _ h => h.1), fun post h => br_f hg3 (br_f (by decide) (tk_ld p (sp p) hp ?_)), fun post h => br_f hg3 (br_f (by decide) (tk_ywx hp hx (br_t rfl (tk_yxx hp hx (Y _ (nm_r (nI_1 d) (tk_yt0 h)))))))⟩
        have X33 : wX_work_33 post (nI p) (tk_oi q.head?) (tk_oi q.getLast?) (nI hd) (-1) ex (nI pr) lv (tk_nf (tk_op cw)) (tk_nf (tk_fA cw)) (tk_nf (tk_fB cw)) fN (tk_nf st) sp pa rg (tk_nf ds) bh (tk_nf ps) (tk_nf pk) pw (tk_nf rd) (tk_nf wr) (tk_nf en) (tk_nf sh) lt fr (tk_nf ms) mv ol := nm_e (X post h)
        rcases hx with hx | ⟨hx, hx2⟩
        · exact br_t hx X33
        · exact br_f hx (br_f (Int32.not_le.mpr hx2) X33)
      · have hsl : nI s ≤ 63 := nI_le (b := 63) (by omega) (by decide)
        obtain ⟨r, ⟨r1, r2⟩, X, Y⟩ : ∃ r : Int32, ((r = 0 ∨ r = 1) ∧ (r = 0 → cw s % 32 = 17 → tk_eo ds p (rg (4 * p + cw s / 128)) ≠ 0 → tk_eo ds p (rg (4 * p + cw s / 128)) % 2 = 0 → 0 < tk_cn ds (tk_eo ds p (rg (4 * p + cw s / 128)) - 1) 24 → pk ((tk_eo ds p (rg (4 * p + cw s / 128)) - 1) / 2) ≠ 4)) ∧ (∀ post : Int32 → Prop, post r → wpX_wouldWait post (tk_oi q.head?, tk_oi q.getLast?, nI hd, -1, ex, nI pr, lv, tk_nf (tk_op cw), tk_nf (tk_fA cw), tk_nf (tk_fB cw), fN, tk_nf st, sp, pa, rg, tk_nf ds, bh, tk_nf ps, tk_nf pk, pw, tk_nf rd, tk_nf wr, tk_nf en, tk_nf sh, lt, fr, tk_nf ms, mv, ol) (nI p)) ∧ (∀ post : Int32 → Prop, post r → wpY_waits post (nI q.length, ex, nI pr, tk_nf cw, fN, tk_nf st, pm, sp, rg, tk_nf ds, me, wo, fi, qa, ol) (nI p)) := tk_wait hp hs hsp (hcw s).1 hJ
        rcases r1 with r1 | r1
        · subst r1
          obtain ⟨r', u1, v1, R1, X1, Y1⟩ : tk_O (b + 1) p (if cw s % 32 = 20 then 0 else 1) cw (fun post => wpX_execute post (tk_oi q.head?, tk_oi q.getLast?, nI hd, -1, ex + 1, nI pr, lv, tk_nf (tk_op cw), tk_nf (tk_fA cw), tk_nf (tk_fB cw), fN, tk_nf st, sp, pa, rg, tk_nf ds, bh, tk_nf ps, tk_nf pk, pw, tk_nf rd, tk_nf wr, tk_nf en, tk_nf sh, lt, fr, tk_nf ms, mv, ol) (nI p) (nI s)) (fun post => wpY_execute post (nI q.length, ex, nI pr, tk_nf cw, fN, tk_nf st, pm, sp, rg, tk_nf ds, me, wo, fi, qa, ol) (nI p)) := tk_ex hp hs hsp (hcw s).1 hJ hS hbb h1 hpq (by omega) (hcw s).2 (r2 rfl)
          have hr' : r' = 0 ∨ r' = 1 := tk_el (P := fun _ _ => r' = 0 ∨ r' = 1) (fun q hd pr st ds ps pk rd wr en sh ms ex lv fN sp pa rg bh pw lt fr mv ol pm me wo fi qa _ _ _ t => by
            rcases t.2 with t | t
            · rw [t.2]
              split
              · exact Or.inl rfl
              · exact Or.inr rfl
            · exact Or.inl t.2) R1
          obtain ⟨u2, v2, R2, X2, Y2⟩ := ih (d + 1) (by omega) (b + 1) (by omega) r' u1 v1 hr' (tk_mono R1 (Nat.le_refl _) (fun q st t => ⟨t.1, fun e => by
            rcases t.2 with t | t
            · exact t.1
            · rw [t.2] at e; exact absurd e (by decide)⟩))
          refine ⟨u2, v2, tk_mono R2 (by omega) (fun _ _ h => h), fun post h => br_f hg3 (br_f (by decide) (tk_ld p (nI s) hp (br_f (nI_pos (by omega)) (br_t hsl (X _ (br_t rfl (nm_e (X1 _ (tk_xaft hp hs (hcw s).1 (fun q st t => t) R1 (X2 post h)))))))) rfl hsp)), fun post h => br_f hg3 (br_f (by decide) (Y _ (br_t rfl (Y1 _ ?_))))⟩
          exact nm_r (nI_1 d) (Y2 post h)
        · subst r1
          refine ⟨(tk_oi q.head?, tk_oi q.getLast?, nI hd, -1, ex, nI pr, lv, tk_nf (tk_op cw), tk_nf (tk_fA cw), tk_nf (tk_fB cw), fN, tk_nf (tk_nu st p 2), sp, pa, rg, tk_nf ds, bh, tk_nf ps, tk_nf pk, pw, tk_nf rd, tk_nf wr, tk_nf en, tk_nf sh, lt, fr, tk_nf ms, mv, ol), (nI q.length, ex, nI pr, tk_nf cw, fN, tk_nf (tk_nu st p 2), pm, sp, rg, tk_nf ds, me, wo, fi, qa, ol), tk_in (tk_J_2 (Or.inr rfl) (Or.inl h1) hpq hJ) ?_ (by omega) hpq, fun post h => br_f hg3 (br_f (by decide) (tk_ld p (nI s) hp (br_f (nI_pos (by omega)) (br_t hsl (X _ (br_f (by decide) (tk_sn p 2 hp h rfl (tk_vb 2)))))) rfl hsp)), fun post h => br_f hg3 (br_f (by decide) (Y _ (br_f (by decide) (tk_sn p 2 hp (h.2.2 ?_)))))⟩
          · intro j hj h2
            by_cases e : j = p
            · subst e; exact ⟨s, hs, hsp⟩
            · rw [tk_nun e] at h2; exact hS j hj h2
          · show ¬ tk_nf (tk_nu st p 2) (nI p).toNatClampNeg = 1
            rw [tk_rn _ p, tk_nus]
            decide
end TKT
end
section
section TKU
variable {q : List Nat} {hd pr b p s : Nat} {ex : Int64} {lv : Int32} {fN sp pa rg bh pw lt fr mv ol : Nat → Int32} {cw st ds ps pk rd wr en sh ms : Nat → Nat}
variable {pm me wo fi qa : Nat → Int32}
def tk_any (_ : List Nat) (_ : Nat → Nat) : Prop := True
def tk_xt2 (post : Int32 → SX → Prop) (n c : Nat) (u : SX) : Prop := wX_turn_2 post n (nI c) u.1 u.2.1 u.2.2.1 u.2.2.2.1 u.2.2.2.2.1 u.2.2.2.2.2.1 u.2.2.2.2.2.2.1 u.2.2.2.2.2.2.2.1 u.2.2.2.2.2.2.2.2.1 u.2.2.2.2.2.2.2.2.2.1 u.2.2.2.2.2.2.2.2.2.2.1 u.2.2.2.2.2.2.2.2.2.2.2.1 u.2.2.2.2.2.2.2.2.2.2.2.2.1 u.2.2.2.2.2.2.2.2.2.2.2.2.2.1 u.2.2.2.2.2.2.2.2.2.2.2.2.2.2.1 u.2.2.2.2.2.2.2.2.2.2.2.2.2.2.2.1 u.2.2.2.2.2.2.2.2.2.2.2.2.2.2.2.2.1 u.2.2.2.2.2.2.2.2.2.2.2.2.2.2.2.2.2.1 u.2.2.2.2.2.2.2.2.2.2.2.2.2.2.2.2.2.2.1 u.2.2.2.2.2.2.2.2.2.2.2.2.2.2.2.2.2.2.2.1 u.2.2.2.2.2.2.2.2.2.2.2.2.2.2.2.2.2.2.2.2.1 u.2.2.2.2.2.2.2.2.2.2.2.2.2.2.2.2.2.2.2.2.2.1 u.2.2.2.2.2.2.2.2.2.2.2.2.2.2.2.2.2.2.2.2.2.2.1 u.2.2.2.2.2.2.2.2.2.2.2.2.2.2.2.2.2.2.2.2.2.2.2.1 u.2.2.2.2.2.2.2.2.2.2.2.2.2.2.2.2.2.2.2.2.2.2.2.2.1 u.2.2.2.2.2.2.2.2.2.2.2.2.2.2.2.2.2.2.2.2.2.2.2.2.2.1 u.2.2.2.2.2.2.2.2.2.2.2.2.2.2.2.2.2.2.2.2.2.2.2.2.2.2.1 u.2.2.2.2.2.2.2.2.2.2.2.2.2.2.2.2.2.2.2.2.2.2.2.2.2.2.2.1 u.2.2.2.2.2.2.2.2.2.2.2.2.2.2.2.2.2.2.2.2.2.2.2.2.2.2.2.2
def tk_yr31 (post : Int32 → SY → Prop) (J : Int32 → SY → Prop) (x2 x3 : Int32) (n c : Nat) (v : SY) : Prop := wY_run_31 post (fun x a1 a2 a3 a4 a5 a6 a7 a8 a9 a10 a11 a12 a13 a14 a15 => J x (a1, a2, a3, a4, a5, a6, a7, a8, a9, a10, a11, a12, a13, a14, a15)) x2 x3 n (nI c) v.1 v.2.1 v.2.2.1 v.2.2.2.1 v.2.2.2.2.1 v.2.2.2.2.2.1 v.2.2.2.2.2.2.1 v.2.2.2.2.2.2.2.1 v.2.2.2.2.2.2.2.2.1 v.2.2.2.2.2.2.2.2.2.1 v.2.2.2.2.2.2.2.2.2.2.1 v.2.2.2.2.2.2.2.2.2.2.2.1 v.2.2.2.2.2.2.2.2.2.2.2.2.1 v.2.2.2.2.2.2.2.2.2.2.2.2.2.1 v.2.2.2.2.2.2.2.2.2.2.2.2.2.2
/-- behind the work: back into the queue, or not -/
theorem tk_fin (hp : p < 6) {u : SX} {v : SY} (R : tk_Rel b (fun q _ => p ∉ q) cw u v) : ∃ (u' : SX) (v' : SY), tk_Rel b tk_any cw u' v' ∧ (∀ post : Int32 → SX → Prop, post 1 u' → (match u with | (fq, lq, hd, pn, ex, pr, lv, op, fA, fB, fN, st, sp, pa, rg, ds, bh, ps, pk, pw, rd, wr, en, sh, lt, fr, ms, mv, ol) => vp_in (nI p) 6 ∧ ((st (nI p).toNatClampNeg = 1 → wpX_enqueue (fun u => post 1 u) (fq, lq, hd, pn, ex, pr, lv, op, fA, fB, fN, st, sp, pa, rg, ds, bh, ps, pk, pw, rd, wr, en, sh, lt, fr, ms, mv, ol) (nI p)) ∧ (¬ st (nI p).toNatClampNeg = 1 → post 1 (fq, lq, hd, pn, ex, pr, lv, op, fA, fB, fN, st, sp, pa, rg, ds, bh, ps, pk, pw, rd, wr, en, sh, lt, fr, ms, mv, ol))))) ∧ (∀ post : SY → Prop, post v' → tk_t53 post p v) := by
  refine tk_el (P := fun u v => ∃ (u' : SX) (v' : SY), tk_Rel b tk_any cw u' v' ∧ (∀ post : Int32 → SX → Prop, post 1 u' → (match u with | (fq, lq, hd, pn, ex, pr, lv, op, fA, fB, fN, st, sp, pa, rg, ds, bh, ps, pk, pw, rd, wr, en, sh, lt, fr, ms, mv, ol) => vp_in (nI p) 6 ∧ ((st (nI p).toNatClampNeg = 1 → wpX_enqueue (fun u => post 1 u) (fq, lq, hd, pn, ex, pr, lv, op, fA, fB, fN, st, sp, pa, rg, ds, bh, ps, pk, pw, rd, wr, en, sh, lt, fr, ms, mv, ol) (nI p)) ∧ (¬ st (nI p).toNatClampNeg = 1 → post 1 (fq, lq, hd, pn, ex, pr, lv, op, fA, fB, fN, st, sp, pa, rg, ds, bh, ps, pk, pw, rd, wr, en, sh, lt, fr, ms, mv, ol))))) ∧ (∀ post : SY → Prop, post v' → tk_t53 post p v)) ?_ R
  intro q hd pr st ds ps pk rd wr en sh ms ex lv fN sp pa rg bh pw lt fr mv ol pm me wo fi qa hJ hS hb hpq
  have h3 := hJ.2.2.2.2.2.2 p
  have hq6 : ∀ x, x ∈ q → x < 6 := fun x hx => (hJ.1.2.1 x hx).1
  have hql := tk_len6 6 q hq6 hJ.1.1
  by_cases c : st p = 1
  · obtain ⟨bh', c4, X⟩ : ∃ bh', tk_ch bh' (q ++ [p]) ∧ ∀ post : SX → Prop, post (tk_oi (q ++ [p]).head?, tk_oi (q ++ [p]).getLast?, nI hd, -1, ex, nI pr, lv, tk_nf (tk_op cw), tk_nf (tk_fA cw), tk_nf (tk_fB cw), fN, tk_nf st, sp, pa, rg, tk_nf ds, bh', tk_nf ps, tk_nf pk, pw, tk_nf rd, tk_nf wr, tk_nf en, tk_nf sh, lt, fr, tk_nf ms, mv, ol) → wpX_enqueue post (tk_oi q.head?, tk_oi q.getLast?, nI hd, -1, ex, nI pr, lv, tk_nf (tk_op cw), tk_nf (tk_fA cw), tk_nf (tk_fB cw), fN, tk_nf st, sp, pa, rg, tk_nf ds, bh, tk_nf ps, tk_nf pk, pw, tk_nf rd, tk_nf wr, tk_nf en, tk_nf sh, lt, fr, tk_nf ms, mv, ol) (nI p) := tk_xen hp hq6 hJ.1.1 hpq hJ.1.2.2.1
    have J' := tk_J_j hp (Or.inl c) hpq hJ c4
    have e : tk_nu st p 1 = st := tk_nuk c
    rw [e] at J'
    refine ⟨_, (nI (q ++ [p]).length, ex, nI pr, tk_nf cw, fN, tk_nf st, pm, sp, rg, tk_nf ds, me, wo, fi, upd qa q.length (nI p), ol), tk_in J' hS hb trivial, fun post h => And.intro (pk_in p 6 hp) (pk_eq (st p) 1 (fun _ => X _ h) (fun w => absurd c w) (tk_rn st p)), fun post h => And.intro (pk_in p 6 hp) (pk_eq (st p) 1 (fun _ => tk_yjoin hp (by omega) ?_) (fun w => absurd c w) (tk_rn st p))⟩
    rw [e]
    exact h
  · exact ⟨_, _, tk_in hJ hS hb trivial, fun post h => And.intro (pk_in p 6 hp) (pk_eq (st p) 1 (fun w => absurd w c) (fun _ => h) (tk_rn st p)), fun post h => And.intro (pk_in p 6 hp) (pk_eq (st p) 1 (fun w => absurd w c) (fun _ => h) (tk_rn st p))⟩
/-- a turn, for both -/
theorem tk_turn (hcw : ∀ i, cw i < 512 ∧ cw i % 32 ≤ 24) : ∀ (m c : Nat), c + m = 6 → ∀ b, b + 3 < 2 ^ 30 → ∀ (u : SX) (v : SY), tk_Rel b tk_any cw u v → ∃ (r : Int32) (u' : SX) (v' : SY), (tk_Rel (b + 3) tk_any cw u' v' ∧ (r = 0 ∨ r = 1)) ∧ (∀ post : Int32 → SX → Prop, post r u' → tk_xt2 post (m + 1) c u) ∧ (∀ (post J : Int32 → SY → Prop) (x2 x3 : Int32), (r = 0 → post x3 v') → (r = 1 → J (x3 + 1) v') → tk_yr31 post J x2 x3 (m + 1) c v) := by
  intro m
  induction m with
  | zero =>
    intro c hc b hB u v R
    obtain rfl : c = 6 := by omega
    have hl : (6 : Int32) ≤ nI 6 := nI_le (a := 6) (b := 6) (by omega) (by decide)
    refine tk_el (P := fun u v => ∃ (r : Int32) (u' : SX) (v' : SY), (tk_Rel (b + 3) tk_any cw u' v' ∧ (r = 0 ∨ r = 1)) ∧ (∀ post : Int32 → SX → Prop, post r u' → tk_xt2 post (0 + 1) 6 u) ∧ (∀ (post J : Int32 → SY → Prop) (x2 x3 : Int32), (r = 0 → post x3 v') → (r = 1 → J (x3 + 1) v') → tk_yr31 post J x2 x3 (0 + 1) 6 v)) ?_ R
    intro q hd pr st ds ps pk rd wr en sh ms ex lv fN sp pa rg bh pw lt fr mv ol pm me wo fi qa hJ hS hb _
    cases q with
    | nil => exact ⟨0, _, _, ⟨tk_in hJ hS (by omega) trivial, Or.inl rfl⟩, fun post h => br_t hl (br_f tk_nn1 (br_f tk_nn1 h)), fun post J x2 x3 h _ => br_t hl (br_t rfl (h rfl))⟩
    | cons x t =>
      obtain ⟨⟨Q1, Q2, Q3, Q4⟩, hrest⟩ := hJ
      have hq6 : ∀ y, y ∈ x :: t → y < 6 := fun y hy => (Q2 y hy).1
      have hql := tk_len6 6 (x :: t) hq6 Q1
      obtain ⟨x6, x1⟩ := Q2 x List.mem_cons_self
      have hxt := (List.nodup_cons.mp Q1).1
      have er : tk_rm x (x :: t) = t := by rw [tk_rm_p, tk_rm_i hxt]
      obtain ⟨qa', A1, A2⟩ : ∃ qa', tk_qa qa' (tk_rm x (x :: t)) ∧ ∀ post : SY → Prop, post (nI (tk_rm x (x :: t)).length, ex, nI pr, tk_nf cw, fN, tk_nf st, pm, sp, rg, tk_nf ds, me, wo, fi, qa', ol) → wpY_leave post (nI (x :: t).length, ex, nI pr, tk_nf cw, fN, tk_nf st, pm, sp, rg, tk_nf ds, me, wo, fi, qa, ol) (nI x) := tk_ylv x6 hq6 (by omega) Q4
      rw [er] at A1 A2
      have R1 : tk_Rel b (fun q st => x ∉ q ∧ ((1 : Int32) = 1 → st x = 1)) cw (tk_oi t.head?, tk_oi t.getLast?, nI hd, -1, ex, nI pr, lv, tk_nf (tk_op cw), tk_nf (tk_fA cw), tk_nf (tk_fB cw), fN, tk_nf st, sp, pa, rg, tk_nf ds, bh, tk_nf ps, tk_nf pk, pw, tk_nf rd, tk_nf wr, tk_nf en, tk_nf sh, lt, fr, tk_nf ms, mv, ol) (nI t.length, ex, nI pr, tk_nf cw, fN, tk_nf st, pm, sp, rg, tk_nf ds, me, wo, fi, qa', ol) := tk_in ⟨⟨(List.nodup_cons.mp Q1).2, fun y hy => Q2 y (List.mem_cons_of_mem _ hy), Q3.2, A1⟩, hrest⟩ hS hb ⟨hxt, fun _ => x1⟩
      obtain ⟨u2, v2, R2, X2, Y2⟩ := tk_work x6 hcw 3 0 rfl b hB 1 _ _ (Or.inr rfl) R1
      obtain ⟨u3, v3, R3, X3, Y3⟩ := tk_fin x6 R2
      have hx0 : (0 : Int32) ≤ nI x := nI_pos' (by omega)
      have hqa : qa 0 = nI x := Q4 0 x rfl
      refine ⟨1, u3, v3, ⟨R3, Or.inr rfl⟩, fun post h => br_t hl (tk_xdeq hq6 Q3 (br_t hx0 (Exists.intro 4 (X2 _ (X3 _ h))))), fun post J x2 x3 _ h => br_t hl (br_f ?_ (nm_r hqa (A2 _ (Exists.intro 4 (Y2 _ (Y3 _ (nm_e (h rfl))))))))⟩
      exact nI_ne0 (by simp) (by omega)
  | succ m ih =>
    intro c hc b hB u v R
    have hg := nI_ge (a := c) (b := 6) (by omega) (by decide)
    have hi : vp_in (nI c) 6 := vp_in_nI (by omega) (by decide)
    refine tk_el (P := fun u v => ∃ (r : Int32) (u' : SX) (v' : SY), (tk_Rel (b + 3) tk_any cw u' v' ∧ (r = 0 ∨ r = 1)) ∧ (∀ post : Int32 → SX → Prop, post r u' → tk_xt2 post (m + 1 + 1) c u) ∧ (∀ (post J : Int32 → SY → Prop) (x2 x3 : Int32), (r = 0 → post x3 v') → (r = 1 → J (x3 + 1) v') → tk_yr31 post J x2 x3 (m + 1 + 1) c v)) ?_ R
    intro q hd pr st ds ps pk rd wr en sh ms ex lv fN sp pa rg bh pw lt fr mv ol pm me wo fi qa hJ hS hb _
    have h3 := hJ.2.2.2.2.2.2 c
    have hc6 : c < 6 := by omega
    by_cases z : st c = 2
    · obtain ⟨s, hs, hsp⟩ := hS c hc6 z
      obtain ⟨r, ⟨r1, _⟩, X, Y⟩ : ∃ r : Int32, ((r = 0 ∨ r = 1) ∧ (r = 0 → cw s % 32 = 17 → tk_eo ds c (rg (4 * c + cw s / 128)) ≠ 0 → tk_eo ds c (rg (4 * c + cw s / 128)) % 2 = 0 → 0 < tk_cn ds (tk_eo ds c (rg (4 * c + cw s / 128)) - 1) 24 → pk ((tk_eo ds c (rg (4 * c + cw s / 128)) - 1) / 2) ≠ 4)) ∧ (∀ post : Int32 → Prop, post r → wpX_wouldWait post (tk_oi q.head?, tk_oi q.getLast?, nI hd, -1, ex, nI pr, lv, tk_nf (tk_op cw), tk_nf (tk_fA cw), tk_nf (tk_fB cw), fN, tk_nf st, sp, pa, rg, tk_nf ds, bh, tk_nf ps, tk_nf pk, pw, tk_nf rd, tk_nf wr, tk_nf en, tk_nf sh, lt, fr, tk_nf ms, mv, ol) (nI c)) ∧ (∀ post : Int32 → Prop, post r → wpY_waits post (nI q.length, ex, nI pr, tk_nf cw, fN, tk_nf st, pm, sp, rg, tk_nf ds, me, wo, fi, qa, ol) (nI c)) := tk_wait hc6 hs hsp (hcw s).1 hJ
      rcases r1 with r1 | r1
      · subst r1
        have hq6 : ∀ x, x ∈ q → x < 6 := fun x hx => (hJ.1.2.1 x hx).1
        have hql := tk_len6 6 q hq6 hJ.1.1
        have hcq : c ∉ q := fun w => by
          have := (hJ.1.2.1 c w).2
          omega
        obtain ⟨bh', c4, X1⟩ : ∃ bh', tk_ch bh' (q ++ [c]) ∧ ∀ post : SX → Prop, post (tk_oi (q ++ [c]).head?, tk_oi (q ++ [c]).getLast?, nI hd, -1, ex, nI pr, lv, tk_nf (tk_op cw), tk_nf (tk_fA cw), tk_nf (tk_fB cw), fN, tk_nf (tk_nu st c 1), sp, pa, rg, tk_nf ds, bh', tk_nf ps, tk_nf pk, pw, tk_nf rd, tk_nf wr, tk_nf en, tk_nf sh, lt, fr, tk_nf ms, mv, ol) → wpX_enqueue post (tk_oi q.head?, tk_oi q.getLast?, nI hd, -1, ex, nI pr, lv, tk_nf (tk_op cw), tk_nf (tk_fA cw), tk_nf (tk_fB cw), fN, tk_nf (tk_nu st c 1), sp, pa, rg, tk_nf ds, bh, tk_nf ps, tk_nf pk, pw, tk_nf rd, tk_nf wr, tk_nf en, tk_nf sh, lt, fr, tk_nf ms, mv, ol) (nI c) := tk_xen hc6 hq6 hJ.1.1 hcq hJ.1.2.2.1
        have J' := tk_J_j hc6 (Or.inr z) hcq hJ c4
        have S' : tk_S (tk_nu st c 1) sp := by
          intro j hj h2
          have e : j ≠ c := by
            intro e
            subst e
            rw [tk_nus] at h2
            omega
          rw [tk_nun e] at h2
          exact hS j hj h2
        have R1 : tk_Rel b tk_any cw (tk_oi (q ++ [c]).head?, tk_oi (q ++ [c]).getLast?, nI hd, -1, ex, nI pr, lv, tk_nf (tk_op cw), tk_nf (tk_fA cw), tk_nf (tk_fB cw), fN, tk_nf (tk_nu st c 1), sp, pa, rg, tk_nf ds, bh', tk_nf ps, tk_nf pk, pw, tk_nf rd, tk_nf wr, tk_nf en, tk_nf sh, lt, fr, tk_nf ms, mv, ol) (nI (q ++ [c]).length, ex, nI pr, tk_nf cw, fN, tk_nf (tk_nu st c 1), pm, sp, rg, tk_nf ds, me, wo, fi, upd qa q.length (nI c), ol) := tk_in J' S' hb trivial
        obtain ⟨r, u2, v2, R2, X2, Y2⟩ := ih (c + 1) (by omega) b hB _ _ R1
        refine ⟨r, u2, v2, R2, fun post h => br_f hg (And.intro hi (pk_eq (st c) 2 (fun _ => X _ (br_t rfl (tk_sn c 1 hc6 (X1 _ (nm_r (nI_1 c) (X2 post h))) rfl (tk_vb 1)))) (fun w => absurd z w) (tk_rn st c))), fun post J x2 x3 g1 g2 => br_f hg (And.intro hi (pk_eq (st c) 2 (fun _ => Y _ (br_t rfl (tk_yjoin hc6 (by omega) (nm_r (nI_1 c) (Y2 post J x2 x3 g1 g2))))) (fun w => absurd z w) (tk_rn st c)))⟩
      · subst r1
        obtain ⟨r, u2, v2, R2, X2, Y2⟩ := ih (c + 1) (by omega) b hB (tk_oi q.head?, tk_oi q.getLast?, nI hd, -1, ex, nI pr, lv, tk_nf (tk_op cw), tk_nf (tk_fA cw), tk_nf (tk_fB cw), fN, tk_nf st, sp, pa, rg, tk_nf ds, bh, tk_nf ps, tk_nf pk, pw, tk_nf rd, tk_nf wr, tk_nf en, tk_nf sh, lt, fr, tk_nf ms, mv, ol) (nI q.length, ex, nI pr, tk_nf cw, fN, tk_nf st, pm, sp, rg, tk_nf ds, me, wo, fi, qa, ol) (tk_in hJ hS hb trivial)
        exact ⟨r, u2, v2, R2, fun post h => br_f hg (And.intro hi (pk_eq (st c) 2 (fun _ => X _ (br_f (by decide) (nm_r (nI_1 c) (X2 post h)))) (fun w => absurd z w) (tk_rn st c))), fun post J x2 x3 g1 g2 => br_f hg (And.intro hi (pk_eq (st c) 2 (fun _ => Y _ (br_f (by decide) (nm_r (nI_1 c) (Y2 post J x2 x3 g1 g2)))) (fun w => absurd z w) (tk_rn st c)))⟩
    · obtain ⟨r, u2, v2, R2, X2, Y2⟩ := ih (c + 1) (by omega) b hB (tk_oi q.head?, tk_oi q.getLast?, nI hd, -1, ex, nI pr, lv, tk_nf (tk_op cw), tk_nf (tk_fA cw), tk_nf (tk_fB cw), fN, tk_nf st, sp, pa, rg, tk_nf ds, bh, tk_nf ps, tk_nf pk, pw, tk_nf rd, tk_nf wr, tk_nf en, tk_nf sh, lt, fr, tk_nf ms, mv, ol) (nI q.length, ex, nI pr, tk_nf cw, fN, tk_nf st, pm, sp, rg, tk_nf ds, me, wo, fi, qa, ol) (tk_in hJ hS hb trivial)
      exact ⟨r, u2, v2, R2, fun post h => br_f hg (And.intro hi (pk_eq (st c) 2 (fun w => absurd w z) (fun _ => nm_r (nI_1 c) (X2 post h)) (tk_rn st c))), fun post J x2 x3 g1 g2 => br_f hg (And.intro hi (pk_eq (st c) 2 (fun w => absurd w z) (fun _ => nm_r (nI_1 c) (Y2 post J x2 x3 g1 g2)) (tk_rn st c)))⟩
def tk_xr (post : Int32 → SX → Prop) (L n d : Nat) (g : Int32) (u : SX) : Prop := wX_run_26 post (nI L) n (nI d) g u.1 u.2.1 u.2.2.1 u.2.2.2.1 u.2.2.2.2.1 u.2.2.2.2.2.1 u.2.2.2.2.2.2.1 u.2.2.2.2.2.2.2.1 u.2.2.2.2.2.2.2.2.1 u.2.2.2.2.2.2.2.2.2.1 u.2.2.2.2.2.2.2.2.2.2.1 u.2.2.2.2.2.2.2.2.2.2.2.1 u.2.2.2.2.2.2.2.2.2.2.2.2.1 u.2.2.2.2.2.2.2.2.2.2.2.2.2.1 u.2.2.2.2.2.2.2.2.2.2.2.2.2.2.1 u.2.2.2.2.2.2.2.2.2.2.2.2.2.2.2.1 u.2.2.2.2.2.2.2.2.2.2.2.2.2.2.2.2.1 u.2.2.2.2.2.2.2.2.2.2.2.2.2.2.2.2.2.1 u.2.2.2.2.2.2.2.2.2.2.2.2.2.2.2.2.2.2.1 u.2.2.2.2.2.2.2.2.2.2.2.2.2.2.2.2.2.2.2.1 u.2.2.2.2.2.2.2.2.2.2.2.2.2.2.2.2.2.2.2.2.1 u.2.2.2.2.2.2.2.2.2.2.2.2.2.2.2.2.2.2.2.2.2.1 u.2.2.2.2.2.2.2.2.2.2.2.2.2.2.2.2.2.2.2.2.2.2.1 u.2.2.2.2.2.2.2.2.2.2.2.2.2.2.2.2.2.2.2.2.2.2.2.1 u.2.2.2.2.2.2.2.2.2.2.2.2.2.2.2.2.2.2.2.2.2.2.2.2.1 u.2.2.2.2.2.2.2.2.2.2.2.2.2.2.2.2.2.2.2.2.2.2.2.2.2.1 u.2.2.2.2.2.2.2.2.2.2.2.2.2.2.2.2.2.2.2.2.2.2.2.2.2.2.1 u.2.2.2.2.2.2.2.2.2.2.2.2.2.2.2.2.2.2.2.2.2.2.2.2.2.2.2.1 u.2.2.2.2.2.2.2.2.2.2.2.2.2.2.2.2.2.2.2.2.2.2.2.2.2.2.2.2
def tk_yr (post : Int32 → SY → Prop) (L n d : Nat) (v : SY) : Prop := wY_run_23 post (nI L) n (nI d) v.1 v.2.1 v.2.2.1 v.2.2.2.1 v.2.2.2.2.1 v.2.2.2.2.2.1 v.2.2.2.2.2.2.1 v.2.2.2.2.2.2.2.1 v.2.2.2.2.2.2.2.2.1 v.2.2.2.2.2.2.2.2.2.1 v.2.2.2.2.2.2.2.2.2.2.1 v.2.2.2.2.2.2.2.2.2.2.2.1 v.2.2.2.2.2.2.2.2.2.2.2.2.1 v.2.2.2.2.2.2.2.2.2.2.2.2.2.1 v.2.2.2.2.2.2.2.2.2.2.2.2.2.2
/-- run, for both -/
theorem tk_run (hcw : ∀ i, cw i < 512 ∧ cw i % 32 ≤ 24) {L : Nat} (hL : L ≤ 80) : ∀ (m d : Nat), d + m = L → ∀ b, b + 3 * m + 3 < 2 ^ 30 → ∀ (u : SX) (v : SY), tk_Rel b tk_any cw u v → ∃ (r : Int32) (u' : SX) (v' : SY), tk_Rel (b + 3 * m) tk_any cw u' v' ∧ (∀ post : Int32 → SX → Prop, post r u' → tk_xr post L (m + 2) d 1 u) ∧ (∀ post : Int32 → SY → Prop, post r v' → tk_yr post L (m + 1) d v) := by
  intro m
  induction m with
  | zero =>
    intro d hd b hB u v R
    obtain rfl : d = L := by omega
    have hl : nI d ≤ nI d := nI_le (Nat.le_refl d) (by omega)
    exact ⟨nI d, u, v, R, fun post h => br_t hl h, fun post h => br_t hl h⟩
  | succ m ih =>
    intro d hd b hB u v R
    have hg : ¬ nI L ≤ nI d := nI_ge (by omega) (by omega)
    obtain ⟨r, u1, v1, ⟨R1, r1⟩, X1, Y1⟩ := tk_turn hcw 6 0 rfl b (by omega) u v R
    rcases r1 with r1 | r1
    · subst r1
      refine ⟨nI d, u1, v1, tk_mono R1 (by omega) (fun _ _ h => h), fun post h => br_f hg (br_f (by decide) (Exists.intro 7 (X1 _ (br_t rfl (br_f hg (br_t rfl h)))))), fun post h => br_f hg (Exists.intro 7 ?_)⟩
      exact Y1 post (fun x w => wY_run_23 post (nI L) (m + 1) x w.1 w.2.1 w.2.2.1 w.2.2.2.1 w.2.2.2.2.1 w.2.2.2.2.2.1 w.2.2.2.2.2.2.1 w.2.2.2.2.2.2.2.1 w.2.2.2.2.2.2.2.2.1 w.2.2.2.2.2.2.2.2.2.1 w.2.2.2.2.2.2.2.2.2.2.1 w.2.2.2.2.2.2.2.2.2.2.2.1 w.2.2.2.2.2.2.2.2.2.2.2.2.1 w.2.2.2.2.2.2.2.2.2.2.2.2.2.1 w.2.2.2.2.2.2.2.2.2.2.2.2.2.2) (nI L) (nI d) (fun _ => h) (fun w => absurd w (by decide))
    · subst r1
      obtain ⟨r, u2, v2, R2, X2, Y2⟩ := ih (d + 1) (by omega) (b + 3) (by omega) u1 v1 R1
      refine ⟨r, u2, v2, tk_mono R2 (by omega) (fun _ _ h => h), fun post h => br_f hg (br_f (by decide) (Exists.intro 7 (X1 _ (br_f (by decide) (nm_r (nI_1 d) (X2 post h)))))), fun post h => br_f hg (Exists.intro 7 ?_)⟩
      refine Y1 post (fun x w => wY_run_23 post (nI L) (m + 1) x w.1 w.2.1 w.2.2.1 w.2.2.2.1 w.2.2.2.2.1 w.2.2.2.2.2.1 w.2.2.2.2.2.2.1 w.2.2.2.2.2.2.2.1 w.2.2.2.2.2.2.2.2.1 w.2.2.2.2.2.2.2.2.2.1 w.2.2.2.2.2.2.2.2.2.2.1 w.2.2.2.2.2.2.2.2.2.2.2.1 w.2.2.2.2.2.2.2.2.2.2.2.2.1 w.2.2.2.2.2.2.2.2.2.2.2.2.2.1 w.2.2.2.2.2.2.2.2.2.2.2.2.2.2) (nI L) (nI d) (fun w => absurd w (by decide)) (fun _ => ?_)
      rw [nI_1]
      exact Y2 post h
end TKU
end
section
section TKN
variable {q : List Nat} {hd pr b p s : Nat} {ex : Int64} {lv : Int32} {fN sp pa rg bh pw lt fr mv ol : Nat → Int32} {cw st ds ps pk rd wr en sh ms : Nat → Nat}
variable {pm me wo fi qa : Nat → Int32}
theorem tk_xsp32 {post : Int32 → SX → Prop} {c : Nat} {y : Int32} (hc : c < 6) (h : wpX_enqueue (fun u => post (nI c) u) (tk_oi q.head?, tk_oi q.getLast?, nI hd, -1, ex, nI pr, lv, tk_nf (tk_op cw), tk_nf (tk_fA cw), tk_nf (tk_fB cw), fN, tk_nf (tk_nu st c 1), sp, pa, upd (upd (upd (upd (upd rg (4 * c) 0) (4 * c + 1) 0) (4 * c + 2) 0) (4 * c + 3) 0) (4 * c) y, tk_nf (tk_z4 ds c), bh, tk_nf ps, tk_nf pk, pw, tk_nf rd, tk_nf wr, tk_nf en, tk_nf sh, lt, fr, tk_nf ms, mv, ol) (nI c)) : wX_spawn_32 post y (nI c) (tk_oi q.head?) (tk_oi q.getLast?) (nI hd) (-1) ex (nI pr) lv 5 (nI (4 * c)) (tk_nf (tk_op cw)) (tk_nf (tk_fA cw)) (tk_nf (tk_fB cw)) fN (tk_nf st) sp pa rg (tk_nf ds) bh (tk_nf ps) (tk_nf pk) pw (tk_nf rd) (tk_nf wr) (tk_nf en) (tk_nf sh) lt fr (tk_nf ms) mv ol := by
  have e4 : 4 * nI c + 4 = nI (4 * c + 4) := by rw [tk_m4]; exact nI_add (4 * c) 4
  refine pk_le (4 * c + 4) (4 * c) (fun z => absurd z (by omega)) (fun _ => tk_st (4 * c) 0 (by omega) (tk_sn (4 * c) 0 (by omega) (nm_r (nI_1 _) ?_) rfl (tk_vb 0))) e4
  refine pk_le (4 * c + 4) (4 * c + 1) (fun z => absurd z (by omega)) (fun _ => tk_st (4 * c + 1) 0 (by omega) (tk_sn (4 * c + 1) 0 (by omega) (nm_r (nI_1 _) ?_) rfl (tk_vb 0))) e4
  refine pk_le (4 * c + 4) (4 * c + 1 + 1) (fun z => absurd z (by omega)) (fun _ => tk_st (4 * c + 2) 0 (by omega) (tk_sn (4 * c + 2) 0 (by omega) (nm_r (nI_1 _) ?_) rfl (tk_vb 0))) e4
  refine pk_le (4 * c + 4) (4 * c + 1 + 1 + 1) (fun z => absurd z (by omega)) (fun _ => tk_st (4 * c + 3) 0 (by omega) (tk_sn (4 * c + 3) 0 (by omega) (nm_r (nI_1 _) ?_) rfl (tk_vb 0))) e4
  exact pk_le (4 * c + 4) (4 * c + 1 + 1 + 1 + 1) (fun _ => tk_st (4 * c) y (by omega) (tk_sn c 1 hc h rfl (tk_vb 1)) (tk_m4 c)) (fun z => absurd z (by omega)) e4
theorem tk_ysp82 {post : Int32 → SY → Prop} {c : Nat} (hc : c < 6) (h : wpY_join (fun u => post (nI c) u) (nI q.length, ex, nI pr, tk_nf cw, fN, tk_nf st, pm, sp, rg, tk_nf ds, tk_cp me (fun _ => 0) (32 * c) 0 32, wo, fi, qa, ol) (nI c)) : ∀ d k, k + d = 32 → wY_spawn_82 post (nI c) (nI q.length) ex (nI pr) (d + 1) (nI (32 * c + k)) (tk_nf cw) fN (tk_nf st) pm sp rg (tk_nf ds) (tk_cp me (fun _ => 0) (32 * c) 0 k) wo fi qa ol := by
  have e32 : 32 * nI c + 32 = nI (32 * c + 32) := by rw [tk_m32]; exact nI_add (32 * c) 32
  intro d
  induction d with
  | zero =>
    intro k hk
    obtain rfl : k = 32 := by omega
    exact pk_le (32 * c + 32) (32 * c + 32) (fun _ => h) (fun z => absurd z (by omega)) e32 rfl
  | succ d ih =>
    intro k hk
    refine pk_le (32 * c + 32) (32 * c + k) (fun z => absurd z (by omega)) (fun _ => ?_) e32 rfl
    refine tk_st (32 * c + k) ((fun _ => (0 : Int32)) (0 + k)) (by omega) (nm_r (nI_1 (32 * c + k)) ?_)
    rw [tk_cps]
    exact ih (k + 1) (by omega)
theorem tk_ysp32 {post : Int32 → SY → Prop} {c : Nat} {y : Int32} (hc : c < 6) (h : wpY_join (fun u => post (nI c) u) (nI q.length, ex, nI pr, tk_nf cw, fN, tk_nf st, pm, sp, upd (upd (upd (upd rg (4 * c) y) (4 * c + 1) 0) (4 * c + 2) 0) (4 * c + 3) 0, tk_nf (tk_z4 ds c), tk_cp me (fun _ => 0) (32 * c) 0 32, wo, fi, qa, ol) (nI c)) : wY_spawn_32 post y (nI c) (nI q.length) ex (nI pr) 5 (nI (4 * c)) (tk_nf cw) fN (tk_nf st) pm sp rg (tk_nf ds) me wo fi qa ol := by
  have e4 : 4 * nI c + 4 = nI (4 * c + 4) := by rw [tk_m4]; exact nI_add (4 * c) 4
  have k := tk_ysp82 hc h 32 0 rfl
  rw [tk_cp0] at k
  refine pk_le (4 * c + 4) (4 * c) (fun z => absurd z (by omega)) (fun _ => pk_eq (4 * c) (4 * c) (fun _ => tk_st (4 * c) y (by omega) (tk_sn (4 * c) 0 (by omega) (nm_r (nI_1 _) ?_))) (fun z => absurd rfl z) rfl (tk_m4 c)) e4
  refine pk_le (4 * c + 4) (4 * c + 1) (fun z => absurd z (by omega)) (fun _ => pk_eq (4 * c + 1) (4 * c) (fun z => absurd z (by omega)) (fun _ => tk_st (4 * c + 1) 0 (by omega) (tk_sn (4 * c + 1) 0 (by omega) (nm_r (nI_1 _) ?_))) rfl (tk_m4 c)) e4
  refine pk_le (4 * c + 4) (4 * c + 1 + 1) (fun z => absurd z (by omega)) (fun _ => pk_eq (4 * c + 2) (4 * c) (fun z => absurd z (by omega)) (fun _ => tk_st (4 * c + 2) 0 (by omega) (tk_sn (4 * c + 2) 0 (by omega) (nm_r (nI_1 _) ?_))) rfl (tk_m4 c)) e4
  refine pk_le (4 * c + 4) (4 * c + 1 + 1 + 1) (fun z => absurd z (by omega)) (fun _ => pk_eq (4 * c + 3) (4 * c) (fun z => absurd z (by omega)) (fun _ => tk_st (4 * c + 3) 0 (by omega) (tk_sn (4 * c + 3) 0 (by omega) (nm_r (nI_1 _) ?_))) rfl (tk_m4 c)) e4
  exact pk_le (4 * c + 4) (4 * c + 1 + 1 + 1 + 1) (fun _ => nm_r (tk_m32 c) (Exists.intro 33 k)) (fun z => absurd z (by omega)) e4
/-- spawn, for both -/
theorem tk_spawn (hJ : tk_J q hd st ds ps pk rd wr en sh ms pa pm bh qa pw wo fi fr mv me) (hS : tk_S st sp) (hb : pr ≤ b) (x y : Int32) : ∃ (r : Int32) (u : SX) (v : SY), tk_Rel b tk_any cw u v ∧ (∀ post : Int32 → SX → Prop, post r u → wpX_spawn post (tk_oi q.head?, tk_oi q.getLast?, nI hd, -1, ex, nI pr, lv, tk_nf (tk_op cw), tk_nf (tk_fA cw), tk_nf (tk_fB cw), fN, tk_nf st, sp, pa, rg, tk_nf ds, bh, tk_nf ps, tk_nf pk, pw, tk_nf rd, tk_nf wr, tk_nf en, tk_nf sh, lt, fr, tk_nf ms, mv, ol) x y) ∧ (∀ post : Int32 → SY → Prop, post r v → wpY_spawn post (nI q.length, ex, nI pr, tk_nf cw, fN, tk_nf st, pm, sp, rg, tk_nf ds, me, wo, fi, qa, ol) x y) := by
  obtain ⟨hQ, hP, hD, ⟨hM, hh⟩, hC, hZ, h3⟩ := hJ
  have hq6 : ∀ x, x ∈ q → x < 6 := fun x hx => (hQ.2.1 x hx).1
  have hql := tk_len6 6 q hq6 hQ.1
  obtain ⟨r, e1, X0, Y0⟩ : ∃ r : Int32, (r = -1 ∨ ∃ p, p < 6 ∧ r = nI p ∧ st p = 0) ∧ (∀ post : Int32 → Prop, post r → wpX_freeProcess post (tk_oi q.head?, tk_oi q.getLast?, nI hd, -1, ex, nI pr, lv, tk_nf (tk_op cw), tk_nf (tk_fA cw), tk_nf (tk_fB cw), fN, tk_nf st, sp, pa, rg, tk_nf ds, bh, tk_nf ps, tk_nf pk, pw, tk_nf rd, tk_nf wr, tk_nf en, tk_nf sh, lt, fr, tk_nf ms, mv, ol)) ∧ (∀ post : Int32 → Prop, post r → wpY_smallestFree post (nI q.length, ex, nI pr, tk_nf cw, fN, tk_nf st, pm, sp, rg, tk_nf ds, me, wo, fi, qa, ol)) := tk_free h3
  rcases e1 with e1 | ⟨c, c1, c2, c3⟩
  · subst e1
    exact ⟨-1000, (tk_oi q.head?, tk_oi q.getLast?, nI hd, -1, ex, nI pr, lv, tk_nf (tk_op cw), tk_nf (tk_fA cw), tk_nf (tk_fB cw), fN, tk_nf st, sp, pa, rg, tk_nf ds, bh, tk_nf ps, tk_nf pk, pw, tk_nf rd, tk_nf wr, tk_nf en, tk_nf sh, lt, fr, tk_nf ms, mv, ol), (nI q.length, ex, nI pr, tk_nf cw, fN, tk_nf st, pm, sp, rg, tk_nf ds, me, wo, fi, qa, ol), tk_in ⟨hQ, hP, hD, ⟨hM, hh⟩, hC, hZ, h3⟩ hS hb trivial, fun post h => X0 _ (br_f tk_nn1 h), fun post h => Y0 _ (br_f tk_nn1 h)⟩
  · subst c2
    have hcq : c ∉ q := fun z => by
      have := (hQ.2.1 c z).2
      omega
    have hz := hZ c c1 (by omega) (by omega)
    have hc0 : (0 : Int32) ≤ nI c := nI_pos' (by omega)
    have ez : tk_z4 ds c = ds := by
      unfold tk_z4
      rw [tk_nuk (g := ds) (k := 4 * c) (hz 0 (by omega)).1, tk_nuk (hz 1 (by omega)).1, tk_nuk (hz 2 (by omega)).1, tk_nuk (hz 3 (by omega)).1]
    have er : upd (upd (upd (upd (upd rg (4 * c) 0) (4 * c + 1) 0) (4 * c + 2) 0) (4 * c + 3) 0) (4 * c) y = upd (upd (upd (upd rg (4 * c) y) (4 * c + 1) 0) (4 * c + 2) 0) (4 * c + 3) 0 := by
      rw [tk_uc (i := 4 * c + 3) (j := 4 * c) (by omega), tk_uc (i := 4 * c + 2) (j := 4 * c) (by omega), tk_uc (i := 4 * c + 1) (j := 4 * c) (by omega), tk_uu]
    obtain ⟨bh', c4, X3⟩ : ∃ bh', tk_ch bh' (q ++ [c]) ∧ ∀ post : SX → Prop, post (tk_oi (q ++ [c]).head?, tk_oi (q ++ [c]).getLast?, nI hd, -1, ex, nI pr, lv, tk_nf (tk_op cw), tk_nf (tk_fA cw), tk_nf (tk_fB cw), fN, tk_nf (tk_nu st c 1), upd sp c x, upd pa c (-1), upd (upd (upd (upd (upd rg (4 * c) 0) (4 * c + 1) 0) (4 * c + 2) 0) (4 * c + 3) 0) (4 * c) y, tk_nf (tk_z4 ds c), bh', tk_nf ps, tk_nf pk, pw, tk_nf rd, tk_nf wr, tk_nf en, tk_nf sh, lt, fr, tk_nf ms, mv, ol) → wpX_enqueue post (tk_oi q.head?, tk_oi q.getLast?, nI hd, -1, ex, nI pr, lv, tk_nf (tk_op cw), tk_nf (tk_fA cw), tk_nf (tk_fB cw), fN, tk_nf (tk_nu st c 1), upd sp c x, upd pa c (-1), upd (upd (upd (upd (upd rg (4 * c) 0) (4 * c + 1) 0) (4 * c + 2) 0) (4 * c + 3) 0) (4 * c) y, tk_nf (tk_z4 ds c), bh, tk_nf ps, tk_nf pk, pw, tk_nf rd, tk_nf wr, tk_nf en, tk_nf sh, lt, fr, tk_nf ms, mv, ol) (nI c) := tk_xen c1 hq6 hQ.1 hcq hQ.2.2.1
    refine ⟨nI c, (tk_oi (q ++ [c]).head?, tk_oi (q ++ [c]).getLast?, nI hd, -1, ex, nI pr, lv, tk_nf (tk_op cw), tk_nf (tk_fA cw), tk_nf (tk_fB cw), fN, tk_nf (tk_nu st c 1), upd sp c x, upd pa c (-1), upd (upd (upd (upd (upd rg (4 * c) 0) (4 * c + 1) 0) (4 * c + 2) 0) (4 * c + 3) 0) (4 * c) y, tk_nf (tk_z4 ds c), bh', tk_nf ps, tk_nf pk, pw, tk_nf rd, tk_nf wr, tk_nf en, tk_nf sh, lt, fr, tk_nf ms, mv, ol), (nI (q ++ [c]).length, ex, nI pr, tk_nf cw, fN, tk_nf (tk_nu st c 1), upd pm c (-1), upd sp c x, upd (upd (upd (upd (upd rg (4 * c) 0) (4 * c + 1) 0) (4 * c + 2) 0) (4 * c + 3) 0) (4 * c) y, tk_nf (tk_z4 ds c), tk_cp me (fun _ => 0) (32 * c) 0 32, wo, fi, upd qa q.length (nI c), ol), tk_in ⟨tk_Q_a c1 hQ hcq c4, ?_, ?_, ⟨hM, hh⟩, ?_, ?_, ?_⟩ ?_ hb trivial, fun post h => X0 _ (br_t hc0 (tk_st c (-1) c1 (tk_st c x c1 (nm_r (tk_m4 c) (Exists.intro 5 (tk_xsp32 c1 (X3 _ h))))) rfl tk_vm1)), fun post h => Y0 _ (br_t hc0 (tk_st c (-1) c1 (tk_st c x c1 (nm_r (tk_m4 c) (Exists.intro 5 (tk_ysp32 c1 (tk_yjoin c1 (by omega) ?_)))))))⟩
    · intro j hj hn
      by_cases e : j = c
      · subst e
        rw [pk_us, pk_us]
        exact ⟨rfl, Or.inl rfl⟩
      · rw [tk_nun e] at hn
        rw [pk_un e, pk_un e]
        exact hP j hj hn
    · rw [ez]; exact hD
    · intro j hj ha i hi
      by_cases e : j = c
      · subst e
        rw [tk_cpi hi, tk_ct0 (hz (i / 8) (by omega)).2]
      · rw [tk_nun e] at ha
        rw [tk_cpo (by omega)]
        exact hC j hj ha i hi
    · intro j hj n1 n2 d hd4
      by_cases e : j = c
      · subst e
        exact absurd tk_nus n1
      · rw [tk_nun e] at n1 n2
        rw [ez]
        exact hZ j hj n1 n2 d hd4
    · intro j
      by_cases e : j = c
      · subst e; rw [tk_nus]; omega
      · rw [tk_nun e]; exact h3 j
    · apply tk_S_u _ (by rw [tk_nus]; omega)
      intro j hj h2
      have e : j ≠ c := by
        intro e
        subst e
        rw [tk_nus] at h2
        omega
      rw [tk_nun e] at h2
      exact hS j hj h2
    · rw [← er]
      exact h
end TKN
end
section
section TKH
variable {q : List Nat} {hd pr b p s : Nat} {ex : Int64} {lv : Int32} {fN sp pa rg bh pw lt fr mv ol : Nat → Int32} {cw st ds ps pk rd wr en sh ms : Nat → Nat}
variable {pm me wo fi qa : Nat → Int32}
theorem tk_rN (x : Int32) {M : Int32} (N : Nat) (hM : M = nI N := by rfl) (hN : N < 2 ^ 31 := by decide) : x < 0 ∨ (¬ x < 0 ∧ M < x) ∨ ∃ j : Nat, j ≤ N ∧ x = nI j := by
  subst hM
  by_cases h : x < 0
  · exact Or.inl h
  · obtain ⟨j, hj, rfl⟩ := nI_of h
    by_cases c : j ≤ N
    · exact Or.inr (Or.inr ⟨j, c, rfl⟩)
    · exact Or.inr (Or.inl ⟨h, nI_lt (by omega) hj⟩)
theorem tk_in0 {post : Int32 → Prop} {v : SY} {x M : Int32} (hx : x < 0 ∨ (¬ x < 0 ∧ M < x)) (h : post 0) : wpY_in post v x 0 M := by
  refine tk_yin ?_
  rcases hx with hx | ⟨hx, hx2⟩
  · rw [if_pos hx]; exact h
  · rw [if_neg hx, if_pos hx2]; exact h
theorem tk_in1 {post : Int32 → Prop} {v : SY} {M : Int32} {j N : Nat} (hj : j ≤ N) (hN : N < 2 ^ 31) (hM : M = nI N) (h : post 1) : wpY_in post v (nI j) 0 M := by
  refine tk_yin ?_
  subst hM
  rw [if_neg (nI_pos (by omega)), if_neg (nI_nlt hj hN)]
  exact h
theorem tk_isp (x : Int32) : ((∀ (post : Int32 → Prop) (u : SX), post 0 → wpX_isProcess post u x) ∧ (∀ (post : Int32 → Prop) (v : SY), post 0 → wpY_in post v x 0 5)) ∨ ∃ j, j < 6 ∧ x = nI j ∧ (∀ (post : Int32 → Prop) (u : SX), post 1 → wpX_isProcess post u x) ∧ (∀ (post : Int32 → Prop) (v : SY), post 1 → wpY_in post v x 0 5) := by
  rcases tk_rN x (M := 5) 5 with h | ⟨h, h2⟩ | ⟨j, hj, rfl⟩
  · refine Or.inl ⟨fun post u hp => ?_, fun post v hp => tk_in0 (Or.inl h) hp⟩
    obtain ⟨_, _, _, _, _, _, _, _, _, _, _, _, _, _, _, _, _, _, _, _, _, _, _, _, _, _, _, _, _⟩ := u
    exact br_t h hp
  · refine Or.inl ⟨fun post u hp => ?_, fun post v hp => tk_in0 (Or.inr ⟨h, h2⟩) hp⟩
    obtain ⟨_, _, _, _, _, _, _, _, _, _, _, _, _, _, _, _, _, _, _, _, _, _, _, _, _, _, _, _, _⟩ := u
    obtain ⟨j, hj, rfl⟩ := nI_of h
    have h5 : 5 < j := by
      have := (nI_ltI (a := 5) (b := j) (by omega) hj).mp h2
      exact this
    exact br_f h (br_t (nI_le (a := 6) (by omega) hj) hp)
  · refine Or.inr ⟨j, by omega, rfl, fun post u hp => ?_, fun post v hp => tk_in1 (N := 5) hj (by decide) rfl hp⟩
    obtain ⟨_, _, _, _, _, _, _, _, _, _, _, _, _, _, _, _, _, _, _, _, _, _, _, _, _, _, _, _, _⟩ := u
    exact br_f (nI_pos (by omega)) (br_f (nI_ge (b := 6) (by omega) (by decide)) hp)
theorem tk_g_state (x : Int32) : ∃ r : Int32, (∀ post : Int32 → Prop, post r → wpX_state post (tk_oi q.head?, tk_oi q.getLast?, nI hd, -1, ex, nI pr, lv, tk_nf (tk_op cw), tk_nf (tk_fA cw), tk_nf (tk_fB cw), fN, tk_nf st, sp, pa, rg, tk_nf ds, bh, tk_nf ps, tk_nf pk, pw, tk_nf rd, tk_nf wr, tk_nf en, tk_nf sh, lt, fr, tk_nf ms, mv, ol) x) ∧ (∀ post : Int32 → Prop, post r → wpY_state post (nI q.length, ex, nI pr, tk_nf cw, fN, tk_nf st, pm, sp, rg, tk_nf ds, me, wo, fi, qa, ol) x) := by
  rcases tk_isp x with ⟨X, Y⟩ | ⟨j, hj, e, X, Y⟩
  · exact ⟨-1000, fun post h => by unfold wpX_state; exact X _ _ (br_t rfl h), fun post h => by unfold wpY_state; exact Y _ _ (br_t rfl h)⟩
  · subst e
    exact ⟨_, fun post h => by unfold wpX_state; exact X _ _ (br_f (by decide) (And.intro (pk_in j 6 hj) h)), fun post h => by unfold wpY_state; exact Y _ _ (br_f (by decide) (And.intro (pk_in j 6 hj) h))⟩
theorem tk_g_spot (x : Int32) : ∃ r : Int32, (∀ post : Int32 → Prop, post r → wpX_spot post (tk_oi q.head?, tk_oi q.getLast?, nI hd, -1, ex, nI pr, lv, tk_nf (tk_op cw), tk_nf (tk_fA cw), tk_nf (tk_fB cw), fN, tk_nf st, sp, pa, rg, tk_nf ds, bh, tk_nf ps, tk_nf pk, pw, tk_nf rd, tk_nf wr, tk_nf en, tk_nf sh, lt, fr, tk_nf ms, mv, ol) x) ∧ (∀ post : Int32 → Prop, post r → wpY_spot post (nI q.length, ex, nI pr, tk_nf cw, fN, tk_nf st, pm, sp, rg, tk_nf ds, me, wo, fi, qa, ol) x) := by
  rcases tk_isp x with ⟨X, Y⟩ | ⟨j, hj, e, X, Y⟩
  · exact ⟨-1000, fun post h => by unfold wpX_spot; exact X _ _ (br_t rfl h), fun post h => by unfold wpY_spot; exact Y _ _ (br_t rfl h)⟩
  · subst e
    by_cases z : tk_nf st (nI j).toNatClampNeg = 0
    · exact ⟨-1000, fun post h => by unfold wpX_spot; exact X _ _ (br_f (by decide) (And.intro (pk_in j 6 hj) (br_t z h))), fun post h => by unfold wpY_spot; exact Y _ _ (br_f (by decide) (And.intro (pk_in j 6 hj) (br_t z h)))⟩
    · exact ⟨_, fun post h => by unfold wpX_spot; exact X _ _ (br_f (by decide) (And.intro (pk_in j 6 hj) (br_f z (And.intro (pk_in j 6 hj) h)))), fun post h => by unfold wpY_spot; exact Y _ _ (br_f (by decide) (And.intro (pk_in j 6 hj) (br_f z (And.intro (pk_in j 6 hj) h))))⟩
theorem tk_g_parent (hJ : tk_J q hd st ds ps pk rd wr en sh ms pa pm bh qa pw wo fi fr mv me) (x : Int32) : ∃ r : Int32, (∀ post : Int32 → Prop, post r → wpX_parent post (tk_oi q.head?, tk_oi q.getLast?, nI hd, -1, ex, nI pr, lv, tk_nf (tk_op cw), tk_nf (tk_fA cw), tk_nf (tk_fB cw), fN, tk_nf st, sp, pa, rg, tk_nf ds, bh, tk_nf ps, tk_nf pk, pw, tk_nf rd, tk_nf wr, tk_nf en, tk_nf sh, lt, fr, tk_nf ms, mv, ol) x) ∧ (∀ post : Int32 → Prop, post r → wpY_parent post (nI q.length, ex, nI pr, tk_nf cw, fN, tk_nf st, pm, sp, rg, tk_nf ds, me, wo, fi, qa, ol) x) := by
  rcases tk_isp x with ⟨X, Y⟩ | ⟨j, hj, e, X, Y⟩
  · exact ⟨-1000, fun post h => by unfold wpX_parent; exact X _ _ (br_t rfl h), fun post h => by unfold wpY_parent; exact Y _ _ (br_t rfl h)⟩
  · subst e
    by_cases z : tk_nf st (nI j).toNatClampNeg = 0
    · exact ⟨-1000, fun post h => by unfold wpX_parent; exact X _ _ (br_f (by decide) (And.intro (pk_in j 6 hj) (br_t z h))), fun post h => by unfold wpY_parent; exact Y _ _ (br_f (by decide) (And.intro (pk_in j 6 hj) (br_t z h)))⟩
    · have z' : st j ≠ 0 := by
        intro w
        apply z
        rw [tk_rn st j, w]
        rfl
      have e1 : pa (nI j).toNatClampNeg = pa j := tk_ri j
      have e2 : pm (nI j).toNatClampNeg = pa j := (tk_ri j).trans (hJ.2.1 j hj z').1
      exact ⟨pa j, fun post h => by unfold wpX_parent; exact X _ _ (br_f (by decide) (And.intro (pk_in j 6 hj) (br_f z (And.intro (pk_in j 6 hj) (tk_ap e1 h))))), fun post h => by unfold wpY_parent; exact Y _ _ (br_f (by decide) (And.intro (pk_in j 6 hj) (br_f z (And.intro (pk_in j 6 hj) (tk_ap e2 h)))))⟩
theorem tk_al2 (hJ : tk_J q hd st ds ps pk rd wr en sh ms pa pm bh qa pw wo fi fr mv me) (x : Int32) : ∃ r : Int32, ((r = 1 ∧ ∃ w, w < 6 ∧ x = nI w ∧ (st w = 1 ∨ st w = 2)) ∨ r = 0) ∧ (∀ post : Int32 → Prop, post r → wpX_isAlive post (tk_oi q.head?, tk_oi q.getLast?, nI hd, -1, ex, nI pr, lv, tk_nf (tk_op cw), tk_nf (tk_fA cw), tk_nf (tk_fB cw), fN, tk_nf st, sp, pa, rg, tk_nf ds, bh, tk_nf ps, tk_nf pk, pw, tk_nf rd, tk_nf wr, tk_nf en, tk_nf sh, lt, fr, tk_nf ms, mv, ol) x) ∧ (∀ post : Int32 → Prop, post r → wpY_isLive post (nI q.length, ex, nI pr, tk_nf cw, fN, tk_nf st, pm, sp, rg, tk_nf ds, me, wo, fi, qa, ol) x) := tk_alive hJ.2.2.2.2.2.2 x
theorem tk_g_register (hJ : tk_J q hd st ds ps pk rd wr en sh ms pa pm bh qa pw wo fi fr mv me) (x y : Int32) : ∃ r : Int32, (∀ post : Int32 → Prop, post r → wpX_register post (tk_oi q.head?, tk_oi q.getLast?, nI hd, -1, ex, nI pr, lv, tk_nf (tk_op cw), tk_nf (tk_fA cw), tk_nf (tk_fB cw), fN, tk_nf st, sp, pa, rg, tk_nf ds, bh, tk_nf ps, tk_nf pk, pw, tk_nf rd, tk_nf wr, tk_nf en, tk_nf sh, lt, fr, tk_nf ms, mv, ol) x y) ∧ (∀ post : Int32 → Prop, post r → wpY_register post (nI q.length, ex, nI pr, tk_nf cw, fN, tk_nf st, pm, sp, rg, tk_nf ds, me, wo, fi, qa, ol) x y) := by
  obtain ⟨r, c, X, Y⟩ := tk_al2 (ex := ex) (pr := pr) (lv := lv) (cw := cw) (fN := fN) (sp := sp) (rg := rg) (lt := lt) (ol := ol) hJ x
  rcases c with ⟨c, w, w1, e, _⟩ | c
  · subst c e
    rcases tk_rN y (M := 3) 3 with h | ⟨h, h2⟩ | ⟨j, hj, rfl⟩
    · exact ⟨0, fun post k => by unfold wpX_register; exact X _ (br_f (by decide) (br_t h k)), fun post k => by unfold wpY_register; exact Y _ (br_f (by decide) (tk_in0 (Or.inl h) (br_t rfl k)))⟩
    · exact ⟨0, fun post k => by unfold wpX_register; exact X _ (br_f (by decide) (br_f h (br_t h2 k))), fun post k => by unfold wpY_register; exact Y _ (br_f (by decide) (tk_in0 (Or.inr ⟨h, h2⟩) (br_t rfl k)))⟩
    · have i := pk_in (x := 4 * nI w + nI j) (4 * w + j) 24 (by omega) (tk_i4 w j)
      exact ⟨_, fun post k => by unfold wpX_register; exact X _ (br_f (by decide) (br_f (nI_pos (by omega)) (br_f (nI_nlt (a := 3) hj (by decide)) (And.intro i k)))), fun post k => by unfold wpY_register; exact Y _ (br_f (by decide) (tk_in1 (N := 3) hj (by decide) rfl (br_f (by decide) (And.intro i k))))⟩
  · subst c
    exact ⟨0, fun post k => by unfold wpX_register; exact X _ (br_t rfl k), fun post k => by unfold wpY_register; exact Y _ (br_t rfl k)⟩
theorem tk_g_descriptor (hJ : tk_J q hd st ds ps pk rd wr en sh ms pa pm bh qa pw wo fi fr mv me) (x y : Int32) : ∃ r : Int32, (∀ post : Int32 → Prop, post r → wpX_descriptor post (tk_oi q.head?, tk_oi q.getLast?, nI hd, -1, ex, nI pr, lv, tk_nf (tk_op cw), tk_nf (tk_fA cw), tk_nf (tk_fB cw), fN, tk_nf st, sp, pa, rg, tk_nf ds, bh, tk_nf ps, tk_nf pk, pw, tk_nf rd, tk_nf wr, tk_nf en, tk_nf sh, lt, fr, tk_nf ms, mv, ol) x y) ∧ (∀ post : Int32 → Prop, post r → wpY_descriptor post (nI q.length, ex, nI pr, tk_nf cw, fN, tk_nf st, pm, sp, rg, tk_nf ds, me, wo, fi, qa, ol) x y) := by
  obtain ⟨r, c, X, Y⟩ := tk_al2 (ex := ex) (pr := pr) (lv := lv) (cw := cw) (fN := fN) (sp := sp) (rg := rg) (lt := lt) (ol := ol) hJ x
  rcases c with ⟨c, w, w1, e, _⟩ | c
  · subst c e
    rcases tk_rN y (M := 3) 3 with h | ⟨h, h2⟩ | ⟨j, hj, rfl⟩
    · exact ⟨0, fun post k => by unfold wpX_descriptor; exact X _ (br_f (by decide) (br_t h k)), fun post k => by unfold wpY_descriptor; exact Y _ (br_f (by decide) (tk_in0 (Or.inl h) (br_t rfl k)))⟩
    · exact ⟨0, fun post k => by unfold wpX_descriptor; exact X _ (br_f (by decide) (br_f h (br_t h2 k))), fun post k => by unfold wpY_descriptor; exact Y _ (br_f (by decide) (tk_in0 (Or.inr ⟨h, h2⟩) (br_t rfl k)))⟩
    · have i := pk_in (x := 4 * nI w + nI j) (4 * w + j) 24 (by omega) (tk_i4 w j)
      exact ⟨_, fun post k => by unfold wpX_descriptor; exact X _ (br_f (by decide) (br_f (nI_pos (by omega)) (br_f (nI_nlt (a := 3) hj (by decide)) (And.intro i k)))), fun post k => by unfold wpY_descriptor; exact Y _ (br_f (by decide) (tk_in1 (N := 3) hj (by decide) rfl (br_f (by decide) (And.intro i k))))⟩
  · subst c
    exact ⟨0, fun post k => by unfold wpX_descriptor; exact X _ (br_t rfl k), fun post k => by unfold wpY_descriptor; exact Y _ (br_t rfl k)⟩
theorem tk_g_word (hJ : tk_J q hd st ds ps pk rd wr en sh ms pa pm bh qa pw wo fi fr mv me) (hS : tk_S st sp) (hb : pr ≤ b) (x y : Int32) : ∃ (r : Int32) (u : SX), tk_Rel b tk_any cw u (nI q.length, ex, nI pr, tk_nf cw, fN, tk_nf st, pm, sp, rg, tk_nf ds, me, wo, fi, qa, ol) ∧ (∀ post : Int32 → SX → Prop, post r u → wpX_word post (tk_oi q.head?, tk_oi q.getLast?, nI hd, -1, ex, nI pr, lv, tk_nf (tk_op cw), tk_nf (tk_fA cw), tk_nf (tk_fB cw), fN, tk_nf st, sp, pa, rg, tk_nf ds, bh, tk_nf ps, tk_nf pk, pw, tk_nf rd, tk_nf wr, tk_nf en, tk_nf sh, lt, fr, tk_nf ms, mv, ol) x y) ∧ (∀ post : Int32 → Prop, post r → wpY_word post (nI q.length, ex, nI pr, tk_nf cw, fN, tk_nf st, pm, sp, rg, tk_nf ds, me, wo, fi, qa, ol) x y) := by
  obtain ⟨r, c, X, Y⟩ := tk_al2 (ex := ex) (pr := pr) (lv := lv) (cw := cw) (fN := fN) (sp := sp) (rg := rg) (lt := lt) (ol := ol) hJ x
  have R0 : tk_Rel b tk_any cw (tk_oi q.head?, tk_oi q.getLast?, nI hd, -1, ex, nI pr, lv, tk_nf (tk_op cw), tk_nf (tk_fA cw), tk_nf (tk_fB cw), fN, tk_nf st, sp, pa, rg, tk_nf ds, bh, tk_nf ps, tk_nf pk, pw, tk_nf rd, tk_nf wr, tk_nf en, tk_nf sh, lt, fr, tk_nf ms, mv, ol) (nI q.length, ex, nI pr, tk_nf cw, fN, tk_nf st, pm, sp, rg, tk_nf ds, me, wo, fi, qa, ol) := tk_in hJ hS hb trivial
  rcases c with ⟨c, w, w1, e, w3⟩ | c
  · subst c e
    rcases tk_rN y (M := 31) 31 with h | ⟨h, h2⟩ | ⟨j, hj, rfl⟩
    · exact ⟨0, _, R0, fun post k => by unfold wpX_word; exact X _ (br_f (by decide) (br_t h k)), fun post k => by unfold wpY_word; exact Y _ (br_f (by decide) (tk_in0 (Or.inl h) (br_t rfl k)))⟩
    · exact ⟨0, _, R0, fun post k => by unfold wpX_word; exact X _ (br_f (by decide) (br_f h (br_t h2 k))), fun post k => by unfold wpY_word; exact Y _ (br_f (by decide) (tk_in0 (Or.inr ⟨h, h2⟩) (br_t rfl k)))⟩
    · obtain ⟨hd', en', sh', ms', lt', fr', mv', ⟨g1, g2, g3⟩, XW⟩ : ∃ (hd' : Nat) (en' sh' ms' : Nat → Nat) (lt' fr' mv' : Nat → Int32), (hd' < 10 ∧ tk_M en' sh' ms' ∧ tk_same en fr mv en' fr' mv') ∧ ∀ post : Int32 → SX → Prop, post (tk_ct en fr mv (4 * w + j / 8) (j % 8)) (tk_oi q.head?, tk_oi q.getLast?, nI hd', -1, ex, nI pr, lv, tk_nf (tk_op cw), tk_nf (tk_fA cw), tk_nf (tk_fB cw), fN, tk_nf st, sp, pa, rg, tk_nf ds, bh, tk_nf ps, tk_nf pk, pw, tk_nf rd, tk_nf wr, tk_nf en', tk_nf sh', lt', fr', tk_nf ms', mv', ol) → wpX_readWord post (tk_oi q.head?, tk_oi q.getLast?, nI hd, -1, ex, nI pr, lv, tk_nf (tk_op cw), tk_nf (tk_fA cw), tk_nf (tk_fB cw), fN, tk_nf st, sp, pa, rg, tk_nf ds, bh, tk_nf ps, tk_nf pk, pw, tk_nf rd, tk_nf wr, tk_nf en, tk_nf sh, lt, fr, tk_nf ms, mv, ol) (nI w) (nI j) := tk_rw hJ.2.2.2.1.1 hJ.2.2.2.1.2 w1 (by omega)
      have hm : me (32 * w + j) = tk_ct en fr mv (4 * w + j / 8) (j % 8) := hJ.2.2.2.2.1 w w1 w3 j (by omega)
      rw [← hm] at XW
      exact ⟨me (32 * w + j), (tk_oi q.head?, tk_oi q.getLast?, nI hd', -1, ex, nI pr, lv, tk_nf (tk_op cw), tk_nf (tk_fA cw), tk_nf (tk_fB cw), fN, tk_nf st, sp, pa, rg, tk_nf ds, bh, tk_nf ps, tk_nf pk, pw, tk_nf rd, tk_nf wr, tk_nf en', tk_nf sh', lt', fr', tk_nf ms', mv', ol), tk_in (tk_J_m hJ g1 g2 g3) hS hb trivial, fun post k => by unfold wpX_word; exact X _ (br_f (by decide) (br_f (nI_pos (by omega)) (br_f (nI_nlt (a := 31) hj (by decide)) (XW _ k)))), fun post k => by unfold wpY_word; exact Y _ (br_f (by decide) (tk_in1 (N := 31) hj (by decide) rfl (br_f (by decide) (And.intro (pk_in (32 * w + j) 192 (by omega) (tk_i32 w j)) (tk_ap (tk_ri (32 * w + j) (tk_i32 w j)) k)))))⟩
  · subst c
    exact ⟨0, _, R0, fun post k => by unfold wpX_word; exact X _ (br_t rfl k), fun post k => by unfold wpY_word; exact Y _ (br_t rfl k)⟩
theorem tk_g_pipe (hJ : tk_J q hd st ds ps pk rd wr en sh ms pa pm bh qa pw wo fi fr mv me) (x : Int32) : ∃ r : Int32, (∀ post : Int32 → Prop, post r → wpX_pipe post (tk_oi q.head?, tk_oi q.getLast?, nI hd, -1, ex, nI pr, lv, tk_nf (tk_op cw), tk_nf (tk_fA cw), tk_nf (tk_fB cw), fN, tk_nf st, sp, pa, rg, tk_nf ds, bh, tk_nf ps, tk_nf pk, pw, tk_nf rd, tk_nf wr, tk_nf en, tk_nf sh, lt, fr, tk_nf ms, mv, ol) x) ∧ (∀ post : Int32 → Prop, post r → wpY_pipe post (nI q.length, ex, nI pr, tk_nf cw, fN, tk_nf st, pm, sp, rg, tk_nf ds, me, wo, fi, qa, ol) x) := by
  rcases tk_rN x (M := 2) 2 with h | ⟨h, h2⟩ | ⟨j, hj, rfl⟩
  · exact ⟨-1000, fun post k => br_t h k, fun post k => by unfold wpY_pipe; exact tk_in0 (Or.inl h) (br_t rfl k)⟩
  · exact ⟨-1000, fun post k => br_f h (br_f (Int32.not_le.mpr h2) k), fun post k => by unfold wpY_pipe; exact tk_in0 (Or.inr ⟨h, h2⟩) (br_t rfl k)⟩
  · have hl : nI j ≤ 2 := nI_le (b := 2) hj (by decide)
    have X : ∀ post : Int32 → Prop, ((tk_th ds j = 0 → post (-1)) ∧ (¬ tk_th ds j = 0 → vp_in (nI j) 3 ∧ post (tk_nf pk (nI j).toNatClampNeg))) → wpX_pipe post (tk_oi q.head?, tk_oi q.getLast?, nI hd, -1, ex, nI pr, lv, tk_nf (tk_op cw), tk_nf (tk_fA cw), tk_nf (tk_fB cw), fN, tk_nf st, sp, pa, rg, tk_nf ds, bh, tk_nf ps, tk_nf pk, pw, tk_nf rd, tk_nf wr, tk_nf en, tk_nf sh, lt, fr, tk_nf ms, mv, ol) (nI j) := fun post k => br_f (nI_pos (by omega)) (br_t hl (tk_xit' hJ.2.2.1 (by omega) k))
    have Y : ∀ post : Int32 → Prop, ((tk_th ds j = 0 → post (-1)) ∧ (¬ tk_th ds j = 0 → vp_in (nI j) 3 ∧ post (fi (nI j).toNatClampNeg))) → wpY_pipe post (nI q.length, ex, nI pr, tk_nf cw, fN, tk_nf st, pm, sp, rg, tk_nf ds, me, wo, fi, qa, ol) (nI j) := by
      intro post k
      unfold wpY_pipe
      refine tk_in1 (N := 2) hj (by decide) rfl ?_
      exact br_f (by decide) (tk_yit hJ.2.2.1.1 (by omega) k)
    rcases tk_th_c ds j with ⟨t1, _⟩ | ⟨t1, t2⟩
    · exact ⟨-1, fun post k => X _ (br_t t1 k), fun post k => Y _ (br_t t1 k)⟩
    · have hk : j < 3 := by omega
      have hf := (hJ.2.2.1.2.2 j hk (by rw [(hJ.2.2.1.2.1 j hk).1, (hJ.2.2.1.2.1 j hk).2]; exact t2)).1
      have t1' : ¬ tk_th ds j = 0 := by rw [t1]; decide
      exact ⟨nI (pk j), fun post k => X _ (br_f t1' (And.intro (pk_in j 3 hk) (tk_ap (tk_rn pk j) k))), fun post k => Y _ (br_f t1' (And.intro (pk_in j 3 hk) (tk_ap ((tk_ri j).trans hf) k)))⟩
theorem tk_g_output (x : Int32) : ∃ r : Int32, (∀ post : Int32 → Prop, post r → wpX_output post (tk_oi q.head?, tk_oi q.getLast?, nI hd, -1, ex, nI pr, lv, tk_nf (tk_op cw), tk_nf (tk_fA cw), tk_nf (tk_fB cw), fN, tk_nf st, sp, pa, rg, tk_nf ds, bh, tk_nf ps, tk_nf pk, pw, tk_nf rd, tk_nf wr, tk_nf en, tk_nf sh, lt, fr, tk_nf ms, mv, ol) x) ∧ (∀ post : Int32 → Prop, post r → wpY_output post (nI q.length, ex, nI pr, tk_nf cw, fN, tk_nf st, pm, sp, rg, tk_nf ds, me, wo, fi, qa, ol) x) := by
  rcases tk_rN x (M := 31) 31 with h | ⟨h, h2⟩ | ⟨j, hj, rfl⟩
  · exact ⟨0, fun post k => br_t h k, fun post k => by unfold wpY_output; exact tk_in0 (Or.inl h) (br_t rfl k)⟩
  · exact ⟨0, fun post k => br_f h (br_c (fun _ => k) (fun _ => br_f (Int32.not_le.mpr h2) k)), fun post k => by unfold wpY_output; exact tk_in0 (Or.inr ⟨h, h2⟩) (br_t rfl k)⟩
  · have hl : nI j ≤ 31 := nI_le (b := 31) hj (by decide)
    have Y : ∀ post : Int32 → Prop, ((nI pr ≤ nI j → post 0) ∧ (¬ nI pr ≤ nI j → vp_in (nI j) 32 ∧ post (ol (nI j).toNatClampNeg))) → wpY_output post (nI q.length, ex, nI pr, tk_nf cw, fN, tk_nf st, pm, sp, rg, tk_nf ds, me, wo, fi, qa, ol) (nI j) := by
      intro post k
      unfold wpY_output
      refine tk_in1 (N := 31) hj (by decide) rfl ?_
      exact br_f (by decide) k
    have i := pk_in (x := nI j) j 32 (by omega)
    by_cases c : nI pr ≤ nI j
    · exact ⟨0, fun post k => br_f (nI_pos (by omega)) (br_t c k), fun post k => Y _ (br_t c k)⟩
    · exact ⟨_, fun post k => br_f (nI_pos (by omega)) (br_f c (br_t hl (And.intro i k))), fun post k => Y _ (br_f c (And.intro i k))⟩
theorem tk_g_kill (hJ : tk_J q hd st ds ps pk rd wr en sh ms pa pm bh qa pw wo fi fr mv me) (hS : tk_S st sp) (hb : pr ≤ b) (x y : Int32) : ∃ (r : Int32) (u : SX) (v : SY), tk_Rel b tk_any cw u v ∧ (∀ post : Int32 → SX → Prop, post r u → wpX_kill post (tk_oi q.head?, tk_oi q.getLast?, nI hd, -1, ex, nI pr, lv, tk_nf (tk_op cw), tk_nf (tk_fA cw), tk_nf (tk_fB cw), fN, tk_nf st, sp, pa, rg, tk_nf ds, bh, tk_nf ps, tk_nf pk, pw, tk_nf rd, tk_nf wr, tk_nf en, tk_nf sh, lt, fr, tk_nf ms, mv, ol) x y) ∧ (∀ post : Int32 → SY → Prop, post r v → wpY_kill post (nI q.length, ex, nI pr, tk_nf cw, fN, tk_nf st, pm, sp, rg, tk_nf ds, me, wo, fi, qa, ol) x y) := by
  obtain ⟨r, c, X, Y⟩ := tk_al2 (ex := ex) (pr := pr) (lv := lv) (cw := cw) (fN := fN) (sp := sp) (rg := rg) (lt := lt) (ol := ol) hJ x
  rcases c with ⟨c, w, w1, e, w3⟩ | c
  · subst c e
    obtain ⟨u, v, R, XE, YE⟩ : ∃ (u : SX) (v : SY), tk_Rel b (fun q st => w ∉ q ∧ st w ≠ 1 ∧ st w ≠ 2) cw u v ∧ (∀ post : SX → Prop, post u → wpX_end post (tk_oi q.head?, tk_oi q.getLast?, nI hd, -1, ex, nI pr, lv, tk_nf (tk_op cw), tk_nf (tk_fA cw), tk_nf (tk_fB cw), fN, tk_nf st, sp, pa, rg, tk_nf ds, bh, tk_nf ps, tk_nf pk, pw, tk_nf rd, tk_nf wr, tk_nf en, tk_nf sh, lt, fr, tk_nf ms, mv, ol) (nI w) y) ∧ (∀ post : SY → Prop, post v → wpY_end post (nI q.length, ex, nI pr, tk_nf cw, fN, tk_nf st, pm, sp, rg, tk_nf ds, me, wo, fi, qa, ol) (nI w) y) := tk_endp w1 w3 hJ hS hb (fun j hj => rfl)
    exact ⟨1, u, v, tk_mono R (Nat.le_refl b) (fun _ _ _ => trivial), fun post k => by unfold wpX_kill; exact X _ (br_f (by decide) (XE (fun u => post 1 u) k)), fun post k => by unfold wpY_kill; exact Y _ (br_f (by decide) (YE (fun u => post 1 u) k))⟩
  · subst c
    exact ⟨0, _, _, tk_in hJ hS hb trivial, fun post k => by unfold wpX_kill; exact X _ (br_t rfl k), fun post k => by unfold wpY_kill; exact Y _ (br_t rfl k)⟩
theorem tk_g_level (hJ : tk_J q hd st ds ps pk rd wr en sh ms pa pm bh qa pw wo fi fr mv me) (hS : tk_S st sp) (hb : pr ≤ b) (x : Int32) : ∃ (r : Int32) (u : SX), tk_Rel b tk_any cw u (nI q.length, ex, nI pr, tk_nf cw, fN, tk_nf st, pm, sp, rg, tk_nf ds, me, wo, fi, qa, ol) ∧ (∀ post : Int32 → SX → Prop, post r u → wpX_level post (tk_oi q.head?, tk_oi q.getLast?, nI hd, -1, ex, nI pr, lv, tk_nf (tk_op cw), tk_nf (tk_fA cw), tk_nf (tk_fB cw), fN, tk_nf st, sp, pa, rg, tk_nf ds, bh, tk_nf ps, tk_nf pk, pw, tk_nf rd, tk_nf wr, tk_nf en, tk_nf sh, lt, fr, tk_nf ms, mv, ol) x) ∧ (∀ post : Int32 → Prop, post r → wpY_level post (nI q.length, ex, nI pr, tk_nf cw, fN, tk_nf st, pm, sp, rg, tk_nf ds, me, wo, fi, qa, ol) x) := by
  rcases tk_rN x (M := 2) 2 with h | ⟨h, h2⟩ | ⟨j, hj, rfl⟩
  · exact ⟨0, (tk_oi q.head?, tk_oi q.getLast?, nI hd, -1, ex, nI pr, lv, tk_nf (tk_op cw), tk_nf (tk_fA cw), tk_nf (tk_fB cw), fN, tk_nf st, sp, pa, rg, tk_nf ds, bh, tk_nf ps, tk_nf pk, pw, tk_nf rd, tk_nf wr, tk_nf en, tk_nf sh, lt, fr, tk_nf ms, mv, ol), tk_in hJ hS hb trivial, fun post k => br_t h k, fun post k => by unfold wpY_level; exact tk_in0 (Or.inl h) (And.intro narrow_b0 k)⟩
  · exact ⟨0, (tk_oi q.head?, tk_oi q.getLast?, nI hd, -1, ex, nI pr, lv, tk_nf (tk_op cw), tk_nf (tk_fA cw), tk_nf (tk_fB cw), fN, tk_nf st, sp, pa, rg, tk_nf ds, bh, tk_nf ps, tk_nf pk, pw, tk_nf rd, tk_nf wr, tk_nf en, tk_nf sh, lt, fr, tk_nf ms, mv, ol), tk_in hJ hS hb trivial, fun post k => br_f h (br_f (Int32.not_le.mpr h2) k), fun post k => by unfold wpY_level; exact tk_in0 (Or.inr ⟨h, h2⟩) (And.intro narrow_b0 k)⟩
  · have hl : nI j ≤ 2 := nI_le (b := 2) hj (by decide)
    exact ⟨1, (tk_oi q.head?, tk_oi q.getLast?, nI hd, -1, ex, nI pr, nI j, tk_nf (tk_op cw), tk_nf (tk_fA cw), tk_nf (tk_fB cw), fN, tk_nf st, sp, pa, rg, tk_nf ds, bh, tk_nf ps, tk_nf pk, pw, tk_nf rd, tk_nf wr, tk_nf en, tk_nf sh, lt, fr, tk_nf ms, mv, ol), tk_in hJ hS hb trivial, fun post k => br_f (nI_pos (by omega)) (br_t hl k), fun post k => by unfold wpY_level; exact tk_in1 (N := 2) hj (by decide) rfl (And.intro narrow_b1 k)⟩
theorem tk_g_code (hcw : ∀ i, cw i < 512 ∧ cw i % 32 ≤ 24) (hJ : tk_J q hd st ds ps pk rd wr en sh ms pa pm bh qa pw wo fi fr mv me) (hS : tk_S st sp) (hb : pr ≤ b) (x y z : Int32) : ∃ (r : Int32) (cw' : Nat → Nat) (u : SX) (v : SY), ((∀ i, cw' i < 512 ∧ cw' i % 32 ≤ 24) ∧ tk_Rel b tk_any cw' u v) ∧ (∀ post : Int32 → SX → Prop, post r u → wpX_code post (tk_oi q.head?, tk_oi q.getLast?, nI hd, -1, ex, nI pr, lv, tk_nf (tk_op cw), tk_nf (tk_fA cw), tk_nf (tk_fB cw), fN, tk_nf st, sp, pa, rg, tk_nf ds, bh, tk_nf ps, tk_nf pk, pw, tk_nf rd, tk_nf wr, tk_nf en, tk_nf sh, lt, fr, tk_nf ms, mv, ol) x y z) ∧ (∀ post : Int32 → SY → Prop, post r v → wpY_code post (nI q.length, ex, nI pr, tk_nf cw, fN, tk_nf st, pm, sp, rg, tk_nf ds, me, wo, fi, qa, ol) x y z) := by
  have R0 : tk_Rel b tk_any cw (tk_oi q.head?, tk_oi q.getLast?, nI hd, -1, ex, nI pr, lv, tk_nf (tk_op cw), tk_nf (tk_fA cw), tk_nf (tk_fB cw), fN, tk_nf st, sp, pa, rg, tk_nf ds, bh, tk_nf ps, tk_nf pk, pw, tk_nf rd, tk_nf wr, tk_nf en, tk_nf sh, lt, fr, tk_nf ms, mv, ol) (nI q.length, ex, nI pr, tk_nf cw, fN, tk_nf st, pm, sp, rg, tk_nf ds, me, wo, fi, qa, ol) := tk_in hJ hS hb trivial
  rcases tk_rN x (M := 63) 63 with h | ⟨h, h2⟩ | ⟨i, hi, rfl⟩
  · exact ⟨0, cw, _, _, ⟨hcw, R0⟩, fun post k => br_t h k, fun post k => by unfold wpY_code; exact tk_in0 (Or.inl h) (br_t rfl k)⟩
  · exact ⟨0, cw, _, _, ⟨hcw, R0⟩, fun post k => br_f h (br_t h2 k), fun post k => by unfold wpY_code; exact tk_in0 (Or.inr ⟨h, h2⟩) (br_t rfl k)⟩
  · have X1 : ¬ nI i < 0 := nI_pos (by omega)
    have X2 : ¬ (63 : Int32) < nI i := nI_nlt (a := 63) hi (by decide)
    rcases tk_rN y (M := 511) 511 with h | ⟨h, h2⟩ | ⟨w, hw, rfl⟩
    · exact ⟨0, cw, _, _, ⟨hcw, R0⟩, fun post k => br_f X1 (br_f X2 (br_t h k)), fun post k => by unfold wpY_code; exact tk_in1 (N := 63) hi (by decide) rfl (br_f (by decide) (tk_in0 (Or.inl h) (br_t rfl k)))⟩
    · exact ⟨0, cw, _, _, ⟨hcw, R0⟩, fun post k => br_f X1 (br_f X2 (br_f h (br_t h2 k))), fun post k => by unfold wpY_code; exact tk_in1 (N := 63) hi (by decide) rfl (br_f (by decide) (tk_in0 (Or.inr ⟨h, h2⟩) (br_t rfl k)))⟩
    · have X3 : ¬ nI w < 0 := nI_pos (by omega)
      have X4 : ¬ (511 : Int32) < nI w := nI_nlt (a := 511) hw (by decide)
      have ea := tk_a31 (w := w) (by omega)
      by_cases c : w % 32 ≤ 24
      · have hl : (nI w &&& 31) ≤ 24 := by rw [ea]; exact nI_le (b := 24) c (by decide)
        have e1 : tk_nu (tk_op cw) i (w % 32) = tk_op (tk_nu cw i w) := by
          funext j
          show (if j = i then w % 32 else cw j % 32) = (if j = i then w else cw j) % 32
          split <;> rfl
        have e2 : tk_nu (tk_fA cw) i (w / 32 % 4) = tk_fA (tk_nu cw i w) := by
          funext j
          show (if j = i then w / 32 % 4 else cw j / 32 % 4) = (if j = i then w else cw j) / 32 % 4
          split <;> rfl
        have e3 : tk_nu (tk_fB cw) i (w / 128) = tk_fB (tk_nu cw i w) := by
          funext j
          show (if j = i then w / 128 else cw j / 128) = (if j = i then w else cw j) / 128
          split <;> rfl
        refine ⟨1, tk_nu cw i w, (tk_oi q.head?, tk_oi q.getLast?, nI hd, -1, ex, nI pr, lv, tk_nf (tk_op (tk_nu cw i w)), tk_nf (tk_fA (tk_nu cw i w)), tk_nf (tk_fB (tk_nu cw i w)), upd fN i z, tk_nf st, sp, pa, rg, tk_nf ds, bh, tk_nf ps, tk_nf pk, pw, tk_nf rd, tk_nf wr, tk_nf en, tk_nf sh, lt, fr, tk_nf ms, mv, ol), (nI q.length, ex, nI pr, tk_nf (tk_nu cw i w), upd fN i z, tk_nf st, pm, sp, rg, tk_nf ds, me, wo, fi, qa, ol), ⟨fun j => ?_, tk_in hJ hS hb trivial⟩, fun post k => br_f X1 (br_f X2 (br_f X3 (br_f X4 (br_t hl (tk_sn i (w % 32) (by omega) (tk_sn i (w / 32 % 4) (by omega) (tk_sn i (w / 128) (by omega) (tk_st i z (by omega) ?_) rfl (tk_vbb (w / 128) ?_)) rfl (tk_vbb (w / 32 % 4) ?_)) rfl (tk_vbb (w % 32) ea)))))), fun post k => by unfold wpY_code; exact tk_in1 (N := 63) hi (by decide) rfl (br_f (by decide) (tk_in1 (N := 511) hw (by decide) rfl (br_f (by decide) (br_t hl (tk_sn i w (by omega) (tk_st i z (by omega) k))))))⟩
        · by_cases e : j = i
          · subst e; rw [tk_nus]; exact ⟨by omega, c⟩
          · rw [tk_nun e]; exact hcw j
        · rw [e1, e2, e3]
          exact k
        · rw [tk_s7 (by omega), tk_a3 (by omega), Nat.mod_eq_of_lt (by omega)]
        · rw [tk_s5 (by omega), tk_a3 (by omega)]
      · have hl : ¬ (nI w &&& 31) ≤ 24 := by rw [ea]; exact nI_ge (a := 24) (b := w % 32) (by omega) (by omega)
        exact ⟨0, cw, _, _, ⟨hcw, R0⟩, fun post k => br_f X1 (br_f X2 (br_f X3 (br_f X4 (br_f hl k)))), fun post k => by unfold wpY_code; exact tk_in1 (N := 63) hi (by decide) rfl (br_f (by decide) (tk_in1 (N := 511) hw (by decide) rfl (br_f (by decide) (br_f hl k))))⟩
theorem tk_g_run (hcw : ∀ i, cw i < 512 ∧ cw i % 32 ≤ 24) (hJ : tk_J q hd st ds ps pk rd wr en sh ms pa pm bh qa pw wo fi fr mv me) (hS : tk_S st sp) (hb : pr ≤ b) (hB : b + 243 < 2 ^ 30) (x : Int32) : ∃ (r : Int32) (u : SX) (v : SY), tk_Rel (b + 240) tk_any cw u v ∧ (∀ post : Int32 → SX → Prop, post r u → wpX_run post (tk_oi q.head?, tk_oi q.getLast?, nI hd, -1, ex, nI pr, lv, tk_nf (tk_op cw), tk_nf (tk_fA cw), tk_nf (tk_fB cw), fN, tk_nf st, sp, pa, rg, tk_nf ds, bh, tk_nf ps, tk_nf pk, pw, tk_nf rd, tk_nf wr, tk_nf en, tk_nf sh, lt, fr, tk_nf ms, mv, ol) x) ∧ (∀ post : Int32 → SY → Prop, post r v → wpY_run post (nI q.length, ex, nI pr, tk_nf cw, fN, tk_nf st, pm, sp, rg, tk_nf ds, me, wo, fi, qa, ol) x) := by
  have R0 : tk_Rel b tk_any cw (tk_oi q.head?, tk_oi q.getLast?, nI hd, -1, ex, nI pr, lv, tk_nf (tk_op cw), tk_nf (tk_fA cw), tk_nf (tk_fB cw), fN, tk_nf st, sp, pa, rg, tk_nf ds, bh, tk_nf ps, tk_nf pk, pw, tk_nf rd, tk_nf wr, tk_nf en, tk_nf sh, lt, fr, tk_nf ms, mv, ol) (nI q.length, ex, nI pr, tk_nf cw, fN, tk_nf st, pm, sp, rg, tk_nf ds, me, wo, fi, qa, ol) := tk_in hJ hS hb trivial
  rcases tk_rN x (M := 80) 80 with h | ⟨h, h2⟩ | ⟨j, hj, rfl⟩
  · obtain ⟨r, u, v, R, X, Y⟩ := tk_run hcw (L := 0) (by omega) 0 0 rfl b (by omega) _ _ R0
    exact ⟨r, u, v, tk_mono R (by omega) (fun _ _ h => h), fun post k => br_f (Int32.not_le.mpr h) (Exists.intro 2 (X post k)), fun post k => br_f (Int32.not_le.mpr h) (Exists.intro 1 (Y post k))⟩
  · obtain ⟨r, u, v, R, X, Y⟩ := tk_run hcw (L := 80) (by omega) 80 0 rfl b (by omega) _ _ R0
    exact ⟨r, u, v, tk_mono R (by omega) (fun _ _ h => h), fun post k => br_t (Int32.not_lt.mp h) (br_f (Int32.not_le.mpr h2) (Exists.intro 82 (X post k))), fun post k => br_t (Int32.not_lt.mp h) (br_f (Int32.not_le.mpr h2) (Exists.intro 81 (Y post k)))⟩
  · obtain ⟨r, u, v, R, X, Y⟩ := tk_run hcw (L := j) hj j 0 (Nat.zero_add j) b (by omega) _ _ R0
    have hl : nI j ≤ 80 := nI_le (b := 80) hj (by decide)
    exact ⟨r, u, v, tk_mono R (by omega) (fun _ _ h => h), fun post k => br_t (nI_pos' (by omega)) (br_t hl (Exists.intro (j + 2) (X post k))), fun post k => br_t (nI_pos' (by omega)) (br_t hl (Exists.intro (j + 1) (Y post k)))⟩
end TKH
end
section
section TKZ
/-- the relation at the head of a turn whose first cell is k: some code words, valid ones, over which both states are pictures of one (tk_Rel), with at most 60 * k numbers printed -/
def i_Rel (k : Nat) (u : SX) (v : SY) : Prop := ∃ cw : Nat → Nat, (∀ i, cw i < 512 ∧ cw i % 32 ≤ 24) ∧ tk_Rel (60 * k) tk_any cw u v
theorem tk_rel {k b : Nat} {cw : Nat → Nat} {u : SX} {v : SY} (hcw : ∀ i, cw i < 512 ∧ cw i % 32 ≤ 24) (hb : b ≤ 60 * (k + 4)) (R : tk_Rel b tk_any cw u v) : i_Rel (k + 4) u v := ⟨cw, hcw, tk_mono R hb (fun _ _ h => h)⟩
theorem i_up {k : Nat} {u : SX} {v : SY} (h : i_Rel k u v) : i_Rel (k + 4) u v := Exists.elim h fun _ h => tk_rel h.1 (by omega) h.2
theorem tk_init {post : SX → Prop} {fq lq hd pn : Int32} {ex : Int64} {pr lv : Int32} {op fA fB fN st sp rg ds bh ps pk pw rd wr en sh lt fr ms mv ol : Nat → Int32} (h : ∀ pa, post (fq, lq, hd, pn, ex, pr, lv, op, fA, fB, fN, st, sp, pa, rg, ds, bh, ps, pk, pw, rd, wr, en, sh, lt, fr, ms, mv, ol)) : ∀ d c, c + d = 6 → ∀ pa, wX_init_199 post fq lq hd pn ex pr lv (d + 1) (nI c) op fA fB fN st sp pa rg ds bh ps pk pw rd wr en sh lt fr ms mv ol := by
  intro d
  induction d with
  | zero =>
    intro c hc pa
    obtain rfl : c = 6 := by omega
    exact br_t (nI_le (a := 6) (b := 6) (by omega) (by decide)) (h pa)
  | succ d ih =>
    intro c hc pa
    exact br_f (nI_ge (b := 6) (by omega) (by decide)) (tk_st c _ (by omega) (nm_r (nI_1 c) (ih (c + 1) (by omega) _)))
theorem tk_J0 (pa pm : Nat → Int32) : tk_J [] 0 (fun _ => 0) (fun _ => 0) (fun _ => 0) (fun _ => 0) (fun _ => 0) (fun _ => 0) (fun _ => 0) (fun _ => 0) (fun _ => 0) pa pm (fun _ => 0) (fun _ => 0) (fun _ => 0) (fun _ => 0) (fun _ => 0) (fun _ => 0) (fun _ => 0) (fun _ => 0) := by
  have z : ∀ v n, v ≠ 0 → tk_cn (fun _ => 0) v n = 0 := fun v n hv => tk_cn_no (fun i _ => fun e => hv e.symm)
  refine ⟨⟨List.nodup_nil, fun x hx => (List.not_mem_nil hx).elim, trivial, fun i x e => by simp at e⟩, fun j hj hn => absurd rfl hn, ⟨fun i _ => Nat.zero_le 6, fun k hk => ⟨(z _ _ (by omega)).symm, (z _ _ (by omega)).symm⟩, fun k hk h => absurd (show 0 < 0 from h) (Nat.lt_irrefl 0)⟩, ⟨⟨fun j _ => Or.inl rfl, fun f _ => (z _ _ (by omega)).symm, fun s _ => (z _ _ (by omega)).symm⟩, by decide⟩, fun p hp ha => absurd (show ((0 : Nat) = 1 ∨ (0 : Nat) = 2) from ha) (by decide), fun p _ _ _ d _ => ⟨rfl, rfl⟩, fun _ => Nat.zero_le 3⟩
theorem tk_n0 : tk_nf (fun _ => 0) = fun _ => 0 := funext fun _ => nI_0
theorem tk_n1' : tk_nf (tk_op fun _ => 0) = fun _ => 0 := funext fun _ => nI_0
theorem tk_n2 : tk_nf (tk_fA fun _ => 0) = fun _ => 0 := funext fun _ => show nI (0 / 32 % 4) = 0 by decide
theorem tk_n3 : tk_nf (tk_fB fun _ => 0) = fun _ => 0 := funext fun _ => show nI (0 / 128) = 0 by decide
theorem i_vc0 : wpX_init (fun u => wpY_init (fun v => i_Rel 0 u v)) := by
  refine Exists.intro 7 (tk_init (fun pa => ?_) 6 0 rfl _)
  refine ⟨fun _ => 0, fun _ => ⟨(by decide : 0 < 512), (by decide : 0 % 32 ≤ 24)⟩, ?_⟩
  have R := tk_in (T := tk_any) (b := 60 * 0) (q := []) (hd := 0) (pr := 0) (cw := fun _ => 0) (st := fun _ => 0) (ds := fun _ => 0) (ps := fun _ => 0) (pk := fun _ => 0) (rd := fun _ => 0) (wr := fun _ => 0) (en := fun _ => 0) (sh := fun _ => 0) (ms := fun _ => 0) (ex := 0) (lv := 2) (fN := fun _ => 0) (sp := fun _ => 0) (rg := fun _ => 0) (lt := fun _ => 0) (ol := fun _ => 0) (tk_J0 pa (fun _ => 0)) (fun j _ h => absurd (show (0 : Nat) = 2 from h) (by decide)) (Nat.le_refl 0) trivial
  rw [tk_n0, tk_n1', tk_n2, tk_n3, nI_0] at R
  exact R
theorem tk_rdr {WX WY : (Int32 → Prop) → Prop} {Q : Prop} (h : ∃ r : Int32, (∀ post : Int32 → Prop, post r → WX post) ∧ (∀ post : Int32 → Prop, post r → WY post)) (q : Q) : WX (fun r => WY (fun r' => r' = r ∧ Q)) := Exists.elim h fun _ h => h.1 _ (h.2 _ ⟨rfl, q⟩)
theorem i_vc_code {k : Nat} {u : SX} {v : SY} (I : i_Rel k u v) (hk : k + 4 ≤ 2048) (v1 : Int32) (v2 : Int32) (v3 : Int32) : wpX_code (fun r u' => wpY_code (fun r' v' => r' = r ∧ i_Rel (k + 4) u' v') v v1 v2 v3) u v1 v2 v3 := by
  obtain ⟨cw, hcw, R⟩ := I
  refine tk_el (P := fun u v => wpX_code (fun r u' => wpY_code (fun r' v' => r' = r ∧ i_Rel (k + 4) u' v') v v1 v2 v3) u v1 v2 v3) ?_ R
  intro q hd pr st ds ps pk rd wr en sh ms ex lv fN sp pa rg bh pw lt fr mv ol pm me wo fi qa hJ hS hb _
  obtain ⟨r, cw', u', v', ⟨hcw', R'⟩, X, Y⟩ := tk_g_code (ex := ex) (lv := lv) (fN := fN) (rg := rg) (lt := lt) (ol := ol) hcw hJ hS hb v1 v2 v3
  exact X _ (Y _ ⟨rfl, tk_rel hcw' (by omega) R'⟩)
theorem i_vc_spawn {k : Nat} {u : SX} {v : SY} (I : i_Rel k u v) (hk : k + 4 ≤ 2048) (v1 : Int32) (v2 : Int32) : wpX_spawn (fun r u' => wpY_spawn (fun r' v' => r' = r ∧ i_Rel (k + 4) u' v') v v1 v2) u v1 v2 := by
  obtain ⟨cw, hcw, R⟩ := I
  refine tk_el (P := fun u v => wpX_spawn (fun r u' => wpY_spawn (fun r' v' => r' = r ∧ i_Rel (k + 4) u' v') v v1 v2) u v1 v2) ?_ R
  intro q hd pr st ds ps pk rd wr en sh ms ex lv fN sp pa rg bh pw lt fr mv ol pm me wo fi qa hJ hS hb _
  obtain ⟨r, u', v', R', X, Y⟩ := tk_spawn (cw := cw) (ex := ex) (lv := lv) (fN := fN) (rg := rg) (lt := lt) (ol := ol) hJ hS hb v1 v2
  exact X _ (Y _ ⟨rfl, tk_rel hcw (by omega) R'⟩)
theorem i_vc_run {k : Nat} {u : SX} {v : SY} (I : i_Rel k u v) (hk : k + 4 ≤ 2048) (v1 : Int32) : wpX_run (fun r u' => wpY_run (fun r' v' => r' = r ∧ i_Rel (k + 4) u' v') v v1) u v1 := by
  obtain ⟨cw, hcw, R⟩ := I
  refine tk_el (P := fun u v => wpX_run (fun r u' => wpY_run (fun r' v' => r' = r ∧ i_Rel (k + 4) u' v') v v1) u v1) ?_ R
  intro q hd pr st ds ps pk rd wr en sh ms ex lv fN sp pa rg bh pw lt fr mv ol pm me wo fi qa hJ hS hb _
  obtain ⟨r, u', v', R', X, Y⟩ := tk_g_run (ex := ex) (lv := lv) (fN := fN) (rg := rg) (lt := lt) (ol := ol) hcw hJ hS hb (by omega) v1
  exact X _ (Y _ ⟨rfl, tk_rel hcw (by omega) R'⟩)
theorem i_vc_state {k : Nat} {u : SX} {v : SY} (I : i_Rel k u v) (hk : k + 4 ≤ 2048) (v1 : Int32) : wpX_state (fun r => wpY_state (fun r' => r' = r ∧ i_Rel (k + 4) u v) v v1) u v1 := by
  have I' := i_up I
  obtain ⟨cw, hcw, R⟩ := I
  exact tk_rdr (WX := fun post => wpX_state post u v1) (WY := fun post => wpY_state post v v1) (tk_el (P := fun u v => ∃ r : Int32, (∀ post : Int32 → Prop, post r → wpX_state post u v1) ∧ (∀ post : Int32 → Prop, post r → wpY_state post v v1)) (fun q hd pr st ds ps pk rd wr en sh ms ex lv fN sp pa rg bh pw lt fr mv ol pm me wo fi qa hJ hS hb _ => tk_g_state v1) R) I'
theorem i_vc_spot {k : Nat} {u : SX} {v : SY} (I : i_Rel k u v) (hk : k + 4 ≤ 2048) (v1 : Int32) : wpX_spot (fun r => wpY_spot (fun r' => r' = r ∧ i_Rel (k + 4) u v) v v1) u v1 := by
  have I' := i_up I
  obtain ⟨cw, hcw, R⟩ := I
  exact tk_rdr (WX := fun post => wpX_spot post u v1) (WY := fun post => wpY_spot post v v1) (tk_el (P := fun u v => ∃ r : Int32, (∀ post : Int32 → Prop, post r → wpX_spot post u v1) ∧ (∀ post : Int32 → Prop, post r → wpY_spot post v v1)) (fun q hd pr st ds ps pk rd wr en sh ms ex lv fN sp pa rg bh pw lt fr mv ol pm me wo fi qa hJ hS hb _ => tk_g_spot v1) R) I'
theorem i_vc_parent {k : Nat} {u : SX} {v : SY} (I : i_Rel k u v) (hk : k + 4 ≤ 2048) (v1 : Int32) : wpX_parent (fun r => wpY_parent (fun r' => r' = r ∧ i_Rel (k + 4) u v) v v1) u v1 := by
  have I' := i_up I
  obtain ⟨cw, hcw, R⟩ := I
  exact tk_rdr (WX := fun post => wpX_parent post u v1) (WY := fun post => wpY_parent post v v1) (tk_el (P := fun u v => ∃ r : Int32, (∀ post : Int32 → Prop, post r → wpX_parent post u v1) ∧ (∀ post : Int32 → Prop, post r → wpY_parent post v v1)) (fun q hd pr st ds ps pk rd wr en sh ms ex lv fN sp pa rg bh pw lt fr mv ol pm me wo fi qa hJ hS hb _ => tk_g_parent hJ v1) R) I'
theorem i_vc_register {k : Nat} {u : SX} {v : SY} (I : i_Rel k u v) (hk : k + 4 ≤ 2048) (v1 : Int32) (v2 : Int32) : wpX_register (fun r => wpY_register (fun r' => r' = r ∧ i_Rel (k + 4) u v) v v1 v2) u v1 v2 := by
  have I' := i_up I
  obtain ⟨cw, hcw, R⟩ := I
  exact tk_rdr (WX := fun post => wpX_register post u v1 v2) (WY := fun post => wpY_register post v v1 v2) (tk_el (P := fun u v => ∃ r : Int32, (∀ post : Int32 → Prop, post r → wpX_register post u v1 v2) ∧ (∀ post : Int32 → Prop, post r → wpY_register post v v1 v2)) (fun q hd pr st ds ps pk rd wr en sh ms ex lv fN sp pa rg bh pw lt fr mv ol pm me wo fi qa hJ hS hb _ => tk_g_register hJ v1 v2) R) I'
theorem i_vc_word {k : Nat} {u : SX} {v : SY} (I : i_Rel k u v) (hk : k + 4 ≤ 2048) (v1 : Int32) (v2 : Int32) : wpX_word (fun r u' => wpY_word (fun r' => r' = r ∧ i_Rel (k + 4) u' v) v v1 v2) u v1 v2 := by
  obtain ⟨cw, hcw, R⟩ := I
  refine tk_el (P := fun u v => wpX_word (fun r u' => wpY_word (fun r' => r' = r ∧ i_Rel (k + 4) u' v) v v1 v2) u v1 v2) ?_ R
  intro q hd pr st ds ps pk rd wr en sh ms ex lv fN sp pa rg bh pw lt fr mv ol pm me wo fi qa hJ hS hb _
  obtain ⟨r, u', R', X, Y⟩ := tk_g_word (cw := cw) (ex := ex) (lv := lv) (fN := fN) (rg := rg) (lt := lt) (ol := ol) hJ hS hb v1 v2
  exact X _ (Y _ ⟨rfl, tk_rel hcw (by omega) R'⟩)
theorem i_vc_descriptor {k : Nat} {u : SX} {v : SY} (I : i_Rel k u v) (hk : k + 4 ≤ 2048) (v1 : Int32) (v2 : Int32) : wpX_descriptor (fun r => wpY_descriptor (fun r' => r' = r ∧ i_Rel (k + 4) u v) v v1 v2) u v1 v2 := by
  have I' := i_up I
  obtain ⟨cw, hcw, R⟩ := I
  exact tk_rdr (WX := fun post => wpX_descriptor post u v1 v2) (WY := fun post => wpY_descriptor post v v1 v2) (tk_el (P := fun u v => ∃ r : Int32, (∀ post : Int32 → Prop, post r → wpX_descriptor post u v1 v2) ∧ (∀ post : Int32 → Prop, post r → wpY_descriptor post v v1 v2)) (fun q hd pr st ds ps pk rd wr en sh ms ex lv fN sp pa rg bh pw lt fr mv ol pm me wo fi qa hJ hS hb _ => tk_g_descriptor hJ v1 v2) R) I'
theorem i_vc_pipe {k : Nat} {u : SX} {v : SY} (I : i_Rel k u v) (hk : k + 4 ≤ 2048) (v1 : Int32) : wpX_pipe (fun r => wpY_pipe (fun r' => r' = r ∧ i_Rel (k + 4) u v) v v1) u v1 := by
  have I' := i_up I
  obtain ⟨cw, hcw, R⟩ := I
  exact tk_rdr (WX := fun post => wpX_pipe post u v1) (WY := fun post => wpY_pipe post v v1) (tk_el (P := fun u v => ∃ r : Int32, (∀ post : Int32 → Prop, post r → wpX_pipe post u v1) ∧ (∀ post : Int32 → Prop, post r → wpY_pipe post v v1)) (fun q hd pr st ds ps pk rd wr en sh ms ex lv fN sp pa rg bh pw lt fr mv ol pm me wo fi qa hJ hS hb _ => tk_g_pipe hJ v1) R) I'
theorem i_vc_executed {k : Nat} {u : SX} {v : SY} (I : i_Rel k u v) (hk : k + 4 ≤ 2048) : wpX_executed (fun r => wpY_executed (fun r' => r' = r ∧ i_Rel (k + 4) u v) v) u := by
  have I' := i_up I
  obtain ⟨cw, hcw, R⟩ := I
  revert I'
  refine tk_el (P := fun u v => i_Rel (k + 4) u v → wpX_executed (fun r => wpY_executed (fun r' => r' = r ∧ i_Rel (k + 4) u v) v) u) ?_ R
  intro q hd pr st ds ps pk rd wr en sh ms ex lv fN sp pa rg bh pw lt fr mv ol pm me wo fi qa hJ hS hb _ I'
  exact ⟨rfl, I'⟩
theorem i_vc_printed {k : Nat} {u : SX} {v : SY} (I : i_Rel k u v) (hk : k + 4 ≤ 2048) : wpX_printed (fun r => wpY_printed (fun r' => r' = r ∧ i_Rel (k + 4) u v) v) u := by
  have I' := i_up I
  obtain ⟨cw, hcw, R⟩ := I
  revert I'
  refine tk_el (P := fun u v => i_Rel (k + 4) u v → wpX_printed (fun r => wpY_printed (fun r' => r' = r ∧ i_Rel (k + 4) u v) v) u) ?_ R
  intro q hd pr st ds ps pk rd wr en sh ms ex lv fN sp pa rg bh pw lt fr mv ol pm me wo fi qa hJ hS hb _ I'
  exact ⟨rfl, I'⟩
theorem i_vc_output {k : Nat} {u : SX} {v : SY} (I : i_Rel k u v) (hk : k + 4 ≤ 2048) (v1 : Int32) : wpX_output (fun r => wpY_output (fun r' => r' = r ∧ i_Rel (k + 4) u v) v v1) u v1 := by
  have I' := i_up I
  obtain ⟨cw, hcw, R⟩ := I
  exact tk_rdr (WX := fun post => wpX_output post u v1) (WY := fun post => wpY_output post v v1) (tk_el (P := fun u v => ∃ r : Int32, (∀ post : Int32 → Prop, post r → wpX_output post u v1) ∧ (∀ post : Int32 → Prop, post r → wpY_output post v v1)) (fun q hd pr st ds ps pk rd wr en sh ms ex lv fN sp pa rg bh pw lt fr mv ol pm me wo fi qa hJ hS hb _ => tk_g_output v1) R) I'
theorem i_vc_kill {k : Nat} {u : SX} {v : SY} (I : i_Rel k u v) (hk : k + 4 ≤ 2048) (v1 : Int32) (v2 : Int32) : wpX_kill (fun r u' => wpY_kill (fun r' v' => r' = r ∧ i_Rel (k + 4) u' v') v v1 v2) u v1 v2 := by
  obtain ⟨cw, hcw, R⟩ := I
  refine tk_el (P := fun u v => wpX_kill (fun r u' => wpY_kill (fun r' v' => r' = r ∧ i_Rel (k + 4) u' v') v v1 v2) u v1 v2) ?_ R
  intro q hd pr st ds ps pk rd wr en sh ms ex lv fN sp pa rg bh pw lt fr mv ol pm me wo fi qa hJ hS hb _
  obtain ⟨r, u', v', R', X, Y⟩ := tk_g_kill (cw := cw) (ex := ex) (lv := lv) (fN := fN) (rg := rg) (lt := lt) (ol := ol) hJ hS hb v1 v2
  exact X _ (Y _ ⟨rfl, tk_rel hcw (by omega) R'⟩)
theorem i_vc_level {k : Nat} {u : SX} {v : SY} (I : i_Rel k u v) (hk : k + 4 ≤ 2048) (v1 : Int32) : wpX_level (fun r u' => wpY_level (fun r' => r' = r ∧ i_Rel (k + 4) u' v) v v1) u v1 := by
  obtain ⟨cw, hcw, R⟩ := I
  refine tk_el (P := fun u v => wpX_level (fun r u' => wpY_level (fun r' => r' = r ∧ i_Rel (k + 4) u' v) v v1) u v1) ?_ R
  intro q hd pr st ds ps pk rd wr en sh ms ex lv fN sp pa rg bh pw lt fr mv ol pm me wo fi qa hJ hS hb _
  obtain ⟨r, u', R', X, Y⟩ := tk_g_level (cw := cw) (ex := ex) (lv := lv) (fN := fN) (rg := rg) (lt := lt) (ol := ol) hJ hS hb v1
  exact X _ (Y _ ⟨rfl, tk_rel hcw (by omega) R'⟩)
end TKZ
end
