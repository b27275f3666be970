section
/-! pure rows to paste: stores, nI and lN arithmetic, masks, shifts, narrowing, branches by naturals (pk_le, pk_lt, pk_eq), loops (lp1 .. lp16: the measure of the state; rp1 ..: recursion), negatives. Take what you need -/
theorem pk_us {f : Nat → Int32} {k : Nat} {x : Int32} : upd f k x k = x := if_pos rfl
theorem pk_un {f : Nat → Int32} {k j : Nat} {x : Int32} (h : j ≠ k) : upd f k x j = f j := if_neg h
theorem pk_uLs {f : Nat → Int64} {k : Nat} {x : Int64} : vp_updL f k x k = x := if_pos rfl
theorem pk_uLn {f : Nat → Int64} {k j : Nat} {x : Int64} (h : j ≠ k) : vp_updL f k x j = f j := if_neg h
theorem pk_sub {a b : Nat} (h : b ≤ a) : nI a - nI b = nI (a - b) := by
  obtain ⟨c, rfl⟩ : ∃ c, a = c + b := ⟨a - b, by omega⟩
  rw [← nI_add, Int32.add_sub_cancel, Nat.add_sub_cancel]
theorem pk_m1 (n : Nat) : nI (n + 1) + (-1) = nI n := by
  rw [← nI_1, Int32.add_assoc, show (1 : Int32) + (-1) = 0 from rfl, Int32.add_zero]
theorem pk_mul (a b : Nat) : nI a * nI b = nI (a * b) := (Int32.ofNat_mul a b).symm
theorem pk_div {a d : Nat} (ha : a < 2 ^ 31) (h0 : 0 < d) (hd : d < 2 ^ 31) : nI a / nI d = nI (a / d) := by
  apply Int32.toInt_inj.mp
  rw [lg_idiv_nonneg (by rw [nI_toInt ha]; omega) (by rw [nI_toInt hd]; omega), nI_toInt ha, nI_toInt hd, nI_toInt (Nat.lt_of_le_of_lt (Nat.div_le_self a d) ha)]
  first | rfl | exact (Int.natCast_ediv _ _).symm
theorem pk_rem {a d : Nat} (ha : a < 2 ^ 31) (h0 : 0 < d) (hd : d < 2 ^ 31) : nI a - nI a / nI d * nI d = nI (a % d) := by
  rw [pk_div ha h0 hd, pk_mul, pk_sub (Nat.div_mul_le_self a d)]
  exact congrArg nI (by have := Nat.div_add_mod' a d; omega)
theorem pk_sub_toInt {a b : Nat} (ha : a < 2 ^ 30) (hb : b < 2 ^ 30) : (nI a - nI b).toInt = (a : Int) - b := by
  rw [Int32.toInt_sub, nI_toInt (by omega), nI_toInt (by omega)]
  exact Int.bmod_eq_of_le (by omega) (by omega)
theorem pk_sneg {a b : Nat} (hb : b < 2 ^ 30) (h : a < b) : nI a - nI b < 0 := by
  rw [Int32.lt_iff_toInt_lt, pk_sub_toInt (by omega) hb, show (0 : Int32).toInt = 0 from by decide]
  omega
theorem pk_ix (x : Int32) {n : Nat} (hn : n < 2 ^ 31) : x < 0 ∨ nI n ≤ x ∨ ∃ j : Nat, j < n ∧ x = nI j := by
  by_cases h : x < 0
  · exact Or.inl h
  · obtain ⟨j, hj, rfl⟩ := nI_of h
    by_cases h2 : j < n
    · exact Or.inr (Or.inr ⟨j, h2, rfl⟩)
    · exact Or.inr (Or.inl (nI_le (by omega) hj))
theorem pk_le {x y : Int32} {A B : Prop} (a b : Nat) (f : a ≤ b → A) (g : b < a → B) (hx : x = nI a := by rfl) (hy : y = nI b := by rfl) (ha : a < 2 ^ 31 := by omega) (hb : b < 2 ^ 31 := by omega) : (x ≤ y → A) ∧ (¬ x ≤ y → B) := by
  subst hx hy
  rw [nI_leI ha hb]
  exact ⟨f, fun z => g (by omega)⟩
theorem pk_lt {x y : Int32} {A B : Prop} (a b : Nat) (f : a < b → A) (g : b ≤ a → B) (hx : x = nI a := by rfl) (hy : y = nI b := by rfl) (ha : a < 2 ^ 31 := by omega) (hb : b < 2 ^ 31 := by omega) : (x < y → A) ∧ (¬ x < y → B) := by
  subst hx hy
  rw [nI_ltI ha hb]
  exact ⟨f, fun z => g (by omega)⟩
theorem pk_eq {x y : Int32} {A B : Prop} (a b : Nat) (f : a = b → A) (g : a ≠ b → B) (hx : x = nI a := by rfl) (hy : y = nI b := by rfl) (ha : a < 2 ^ 31 := by omega) (hb : b < 2 ^ 31 := by omega) : (x = y → A) ∧ (¬ x = y → B) := by
  subst hx hy
  rw [nI_eq ha hb]
  exact ⟨f, g⟩
theorem pk_in {x : Int32} (n N : Nat) (h : n < N) (hx : x = nI n := by rfl) (hN : N < 2 ^ 31 := by omega) : vp_in x N := by
  subst hx
  exact vp_in_nI h hN
theorem pk_cl {x : Int32} (n : Nat) (hx : x = nI n := by rfl) (h : n < 2 ^ 31 := by omega) : x.toNatClampNeg = n := by
  subst hx
  exact nI_clamp h
theorem pk_tn {n : Nat} (h : n < 2 ^ 32) : (nI n).toBitVec.toNat = n := Nat.mod_eq_of_lt h
theorem pk_and (x : Int32) {m : Int32} (k : Nat) (hm : m.toBitVec.toNat = 2 ^ k - 1) : x &&& m = nI (x.toBitVec.toNat % 2 ^ k) := by
  apply Int32.toBitVec_inj.mp
  apply BitVec.eq_of_toNat_eq
  rw [Int32.toBitVec_and, BitVec.toNat_and, hm, Nat.and_two_pow_sub_one_eq_mod]
  show _ = (BitVec.ofNat 32 _).toNat
  rw [BitVec.toNat_ofNat]
  exact (Nat.mod_eq_of_lt (Nat.lt_of_le_of_lt (Nat.mod_le _ _) x.toBitVec.isLt)).symm
theorem pk_andN {n : Nat} (h : n < 2 ^ 32) {m : Int32} (k : Nat) (hm : m.toBitVec.toNat = 2 ^ k - 1) : nI n &&& m = nI (n % 2 ^ k) := by
  rw [pk_and _ k hm, pk_tn h]
theorem pk_andE (x : Int32) {m : Int32} (k : Nat) (hm : m.toBitVec.toNat = 2 ^ k - 1) : ∃ j : Nat, j < 2 ^ k ∧ x &&& m = nI j := ⟨_, Nat.mod_lt _ (Nat.two_pow_pos k), pk_and x k hm⟩
theorem pk_andIn (x : Int32) {m : Int32} (k : Nat) (hm : m.toBitVec.toNat = 2 ^ k - 1) (hk : k ≤ 30) : vp_in (x &&& m) (2 ^ k) := by
  obtain ⟨j, hj, e⟩ := pk_andE x k hm
  rw [e]
  exact vp_in_nI hj (Nat.lt_of_le_of_lt (Nat.pow_le_pow_right (by decide) hk) (by decide))
theorem pk_shl (a s : Int32) (k : Nat) (hs : (s.toBitVec.smod 32).toNat = k) : (a <<< s).toBitVec.toNat = a.toBitVec.toNat * 2 ^ k % 2 ^ 32 := by
  show (a.toBitVec <<< (s.toBitVec.smod 32).toNat).toNat = _
  rw [hs, BitVec.toNat_shiftLeft, Nat.shiftLeft_eq]
theorem pk_shlN {n : Nat} (s : Int32) (k : Nat) (hs : (s.toBitVec.smod 32).toNat = k) (h : n * 2 ^ k < 2 ^ 32) : nI n <<< s = nI (n * 2 ^ k) := by
  apply Int32.toBitVec_inj.mp
  apply BitVec.eq_of_toNat_eq
  have hn : n < 2 ^ 32 := Nat.lt_of_le_of_lt (Nat.le_mul_of_pos_right n (Nat.two_pow_pos k)) h
  rw [pk_shl _ _ k hs, pk_tn hn, pk_tn h, Nat.mod_eq_of_lt h]
theorem pk_shr (a s : Int32) (k : Nat) (hs : (s.toBitVec.smod 32).toNat = k) : (a >>> s).toInt = a.toInt >>> k := by
  show (a.toBitVec.sshiftRight (s.toBitVec.smod 32).toNat).toInt = _
  rw [hs, BitVec.toInt_sshiftRight]
  rfl
theorem pk_shrN {n : Nat} (h : n < 2 ^ 31) (s : Int32) (k : Nat) (hs : (s.toBitVec.smod 32).toNat = k) : nI n >>> s = nI (n / 2 ^ k) := by
  apply Int32.toInt_inj.mp
  have h2 : n / 2 ^ k ≤ n := Nat.div_le_self _ _
  rw [pk_shr _ _ k hs, nI_toInt h, nI_toInt (by omega), Int.shiftRight_eq_div_pow]
  rfl
theorem pk_ushr (x s : Int32) (k : Nat) (hs : ((s.toUInt32 &&& Int32.toUInt32 31).toBitVec % 32).toNat = k) : (x.toUInt32 >>> (s.toUInt32 &&& Int32.toUInt32 31)).toInt32.toBitVec.toNat = x.toBitVec.toNat / 2 ^ k := by
  have e : (x.toUInt32 >>> (s.toUInt32 &&& Int32.toUInt32 31)).toInt32.toBitVec = x.toBitVec >>> k := by
    rw [← hs]
    exact UInt32.toBitVec_shiftRight _ _
  rw [e, BitVec.toNat_ushiftRight, Nat.shiftRight_eq_div_pow]
theorem pk_ushrN {n : Nat} (hn : n < 2 ^ 32) (s : Int32) (k : Nat) (hs : ((s.toUInt32 &&& Int32.toUInt32 31).toBitVec % 32).toNat = k) : ((nI n).toUInt32 >>> (s.toUInt32 &&& Int32.toUInt32 31)).toInt32 = nI (n / 2 ^ k) := by
  apply Int32.toBitVec_inj.mp
  apply BitVec.eq_of_toNat_eq
  rw [pk_ushr _ s k hs, pk_tn hn, pk_tn (Nat.lt_of_le_of_lt (Nat.div_le_self _ _) hn)]
theorem pk_nb (z : Int32) : narrow .byte (.int z.toInt8.toInt32) = .int z.toInt8.toInt32 := congrArg Value.int (by simp)
theorem pk_ns (z : Int32) : narrow .short (.int z.toInt16.toInt32) = .int z.toInt16.toInt32 := congrArg Value.int (by simp)
theorem pk_fb (r : Int32) : fits .byte (.int r.toInt8.toInt32) = true := by
  have ⟨a, b⟩ := lg_i2b_range r
  have h1 : (-128 : Int32).toInt = -128 := by decide
  have h2 : (127 : Int32).toInt = 127 := by decide
  simp only [fits, Bool.and_eq_true, decide_eq_true_eq, Int32.le_iff_toInt_le, h1, h2]
  omega
theorem pk_fs (r : Int32) : fits .short (.int r.toInt16.toInt32) = true := by
  have ⟨a, b⟩ := lg_i2s_range r
  have h1 : (-32768 : Int32).toInt = -32768 := by decide
  have h2 : (32767 : Int32).toInt = 32767 := by decide
  simp only [fits, Bool.and_eq_true, decide_eq_true_eq, Int32.le_iff_toInt_le, h1, h2]
  omega
theorem pk_charN {q : Nat} (hq : q < 65536) : narrow .char (.int (nI q)) = .int (nI q) ∧ fits .char (.int (nI q)) = true := by
  constructor
  · have e : (nI q).toUInt32.toUInt16.toUInt32.toInt32 = nI q := by
      apply Int32.toBitVec_inj.mp
      apply BitVec.eq_of_toNat_eq
      show (nI q).toUInt32.toUInt16.toUInt32.toNat = q % 2 ^ 32
      rw [UInt16.toNat_toUInt32, UInt32.toNat_toUInt16, show (nI q).toUInt32.toNat = q % 2 ^ 32 from rfl]
      omega
    exact congrArg Value.int e
  · have a : (0 : Int32) ≤ nI q := nI_pos' (by omega)
    have b : nI q ≤ 65535 := nI_le (b := 65535) (by omega) (by decide)
    show (decide ((0 : Int32) ≤ nI q) && decide (nI q ≤ 65535)) = true
    rw [decide_eq_true a, decide_eq_true b]
    rfl
theorem pk_char (x : Int32) : (x.toUInt32 % 65536).toInt32 = nI (x.toBitVec.toNat % 65536) := by
  apply Int32.toBitVec_inj.mp
  apply BitVec.eq_of_toNat_eq
  rw [pk_tn (by omega)]
  show (x.toUInt32 % 65536).toNat = _
  rw [UInt32.toNat_mod]
  rfl
theorem pk_nc (x : Int32) : narrow .char (.int (x.toUInt32 % 65536).toInt32) = .int (x.toUInt32 % 65536).toInt32 := by
  rw [pk_char]
  exact (pk_charN (Nat.mod_lt _ (by decide))).1
theorem pk_fc (x : Int32) : fits .char (.int (x.toUInt32 % 65536).toInt32) = true := by
  rw [pk_char]
  exact (pk_charN (Nat.mod_lt _ (by decide))).2
theorem pk_vb (z : Int32) : vp_nar .byte z.toInt8.toInt32 = z.toInt8.toInt32 := by rw [vp_nar_byte]; simp
theorem pk_vs (z : Int32) : vp_nar .short z.toInt16.toInt32 = z.toInt16.toInt32 := by rw [vp_nar_short]; simp
theorem pk_vc (z : Int32) : vp_nar .char (z.toUInt32 % 65536).toInt32 = (z.toUInt32 % 65536).toInt32 := Value.int.inj (pk_nc z)
theorem pk_lT {n : Nat} (h : n < 2 ^ 63) : (lN n).toInt = (n : Int) := lg_ofNat_toInt h
theorem pk_lLT {a b : Nat} (ha : a < 2 ^ 63) (hb : b < 2 ^ 63) : lN a < lN b ↔ a < b := by
  rw [Int64.lt_iff_toInt_lt, pk_lT ha, pk_lT hb]; omega
theorem pk_lLE {a b : Nat} (ha : a < 2 ^ 63) (hb : b < 2 ^ 63) : lN a ≤ lN b ↔ a ≤ b := by
  rw [Int64.le_iff_toInt_le, pk_lT ha, pk_lT hb]; omega
theorem pk_lEQ {a b : Nat} (ha : a < 2 ^ 63) (hb : b < 2 ^ 63) : lN a = lN b ↔ a = b := by
  rw [← Int64.toInt_inj, pk_lT ha, pk_lT hb]; omega
theorem pk_lOf {x : Int64} (h : ¬ x < 0) : ∃ k : Nat, k < 2 ^ 63 ∧ x = lN k := by
  rw [Int64.lt_iff_toInt_lt] at h
  have h0 : (0 : Int64).toInt = 0 := by decide
  have hx := Int64.toInt_lt x
  refine ⟨x.toInt.toNat, by omega, Int64.toInt_inj.mp ?_⟩
  rw [pk_lT (by omega)]
  omega
theorem pk_lDiv {a b : Nat} (ha : a < 2 ^ 63) (h0 : 0 < b) (hb : b < 2 ^ 63) : lN a / lN b = lN (a / b) := by
  apply Int64.toInt_inj.mp
  rw [lg_ldiv_nonneg (by rw [pk_lT ha]; omega) (by rw [pk_lT hb]; omega), pk_lT ha, pk_lT hb, pk_lT (Nat.lt_of_le_of_lt (Nat.div_le_self a b) ha)]
  rfl
theorem pk_lRem {a b : Nat} (ha : a < 2 ^ 63) (h0 : 0 < b) (hb : b < 2 ^ 63) : lN a - lN a / lN b * lN b = lN (a % b) := by
  rw [pk_lDiv ha h0 hb, lN_mul, lN_sub (Nat.div_mul_le_self a b)]
  exact congrArg lN (by have := Nat.div_add_mod' a b; omega)
theorem pk_loop {σ : Type} (W : Nat → Nat → σ → Prop) (I : Nat → σ → Prop) (e i0 : Nat) (s : σ) (hi : i0 ≤ e) (h0 : I i0 s) (hx : ∀ n s, I e s → W (n + 1) e s)
    (hs : ∀ n i s, i < e → I i s → (∀ s', I (i + 1) s' → W n (i + 1) s') → W (n + 1) i s) : ∃ n, W n i0 s :=
  ⟨e + 1, loop_i W I e hx hs (e + 1) i0 s hi (by omega) h0⟩
theorem pk_loopD {σ : Type} (W : Nat → Nat → σ → Prop) (I : Nat → σ → Prop) (hx : ∀ n s, I 0 s → W (n + 1) 0 s)
    (hs : ∀ n i s, I (i + 1) s → (∀ s', I i s' → W n i s') → W (n + 1) (i + 1) s) : ∀ (e : Nat) (s : σ), I e s → W (e + 1) e s := by
  intro e
  induction e with
  | zero => exact fun s h => hx 0 s h
  | succ e ih => exact fun s h => hs (e + 1) e s h (fun s' h' => ih s' h')
theorem lp1 {A1 : Type} (W : Nat → A1 → Prop) (I : A1 → Prop) (μ : A1 → Nat) (hs : ∀ (n : Nat) (a1 : A1), I a1 → (∀ (b1 : A1), I b1 → μ b1 < μ a1 → W n b1) → W (n + 1) a1) (a1 : A1) (h : I a1) : ∃ n, W n a1 :=
  loop_m (σ := A1) (fun n s => W n s) (fun s => I s) (fun s => μ s) (fun n s hI hk => hs n s hI (fun b1 h9 hm => hk b1 h9 hm)) a1 h
theorem lp2 {A1 A2 : Type} (W : Nat → A1 → A2 → Prop) (I : A1 → A2 → Prop) (μ : A1 → A2 → Nat) (hs : ∀ (n : Nat) (a1 : A1) (a2 : A2), I a1 a2 → (∀ (b1 : A1) (b2 : A2), I b1 b2 → μ b1 b2 < μ a1 a2 → W n b1 b2) → W (n + 1) a1 a2) (a1 : A1) (a2 : A2) (h : I a1 a2) : ∃ n, W n a1 a2 :=
  loop_m (σ := A1 × A2) (fun n s => W n s.1 s.2) (fun s => I s.1 s.2) (fun s => μ s.1 s.2) (fun n s hI hk => hs n s.1 s.2 hI (fun b1 b2 h9 hm => hk (b1, b2) h9 hm)) (a1, a2) h
theorem lp3 {A1 A2 A3 : Type} (W : Nat → A1 → A2 → A3 → Prop) (I : A1 → A2 → A3 → Prop) (μ : A1 → A2 → A3 → Nat) (hs : ∀ (n : Nat) (a1 : A1) (a2 : A2) (a3 : A3), I a1 a2 a3 → (∀ (b1 : A1) (b2 : A2) (b3 : A3), I b1 b2 b3 → μ b1 b2 b3 < μ a1 a2 a3 → W n b1 b2 b3) → W (n + 1) a1 a2 a3) (a1 : A1) (a2 : A2) (a3 : A3) (h : I a1 a2 a3) : ∃ n, W n a1 a2 a3 :=
  loop_m (σ := A1 × A2 × A3) (fun n s => W n s.1 s.2.1 s.2.2) (fun s => I s.1 s.2.1 s.2.2) (fun s => μ s.1 s.2.1 s.2.2) (fun n s hI hk => hs n s.1 s.2.1 s.2.2 hI (fun b1 b2 b3 h9 hm => hk (b1, b2, b3) h9 hm)) (a1, a2, a3) h
theorem lp4 {A1 A2 A3 A4 : Type} (W : Nat → A1 → A2 → A3 → A4 → Prop) (I : A1 → A2 → A3 → A4 → Prop) (μ : A1 → A2 → A3 → A4 → Nat) (hs : ∀ (n : Nat) (a1 : A1) (a2 : A2) (a3 : A3) (a4 : A4), I a1 a2 a3 a4 → (∀ (b1 : A1) (b2 : A2) (b3 : A3) (b4 : A4), I b1 b2 b3 b4 → μ b1 b2 b3 b4 < μ a1 a2 a3 a4 → W n b1 b2 b3 b4) → W (n + 1) a1 a2 a3 a4) (a1 : A1) (a2 : A2) (a3 : A3) (a4 : A4) (h : I a1 a2 a3 a4) : ∃ n, W n a1 a2 a3 a4 :=
  loop_m (σ := A1 × A2 × A3 × A4) (fun n s => W n s.1 s.2.1 s.2.2.1 s.2.2.2) (fun s => I s.1 s.2.1 s.2.2.1 s.2.2.2) (fun s => μ s.1 s.2.1 s.2.2.1 s.2.2.2) (fun n s hI hk => hs n s.1 s.2.1 s.2.2.1 s.2.2.2 hI (fun b1 b2 b3 b4 h9 hm => hk (b1, b2, b3, b4) h9 hm)) (a1, a2, a3, a4) h
theorem lp5 {A1 A2 A3 A4 A5 : Type} (W : Nat → A1 → A2 → A3 → A4 → A5 → Prop) (I : A1 → A2 → A3 → A4 → A5 → Prop) (μ : A1 → A2 → A3 → A4 → A5 → Nat) (hs : ∀ (n : Nat) (a1 : A1) (a2 : A2) (a3 : A3) (a4 : A4) (a5 : A5), I a1 a2 a3 a4 a5 → (∀ (b1 : A1) (b2 : A2) (b3 : A3) (b4 : A4) (b5 : A5), I b1 b2 b3 b4 b5 → μ b1 b2 b3 b4 b5 < μ a1 a2 a3 a4 a5 → W n b1 b2 b3 b4 b5) → W (n + 1) a1 a2 a3 a4 a5) (a1 : A1) (a2 : A2) (a3 : A3) (a4 : A4) (a5 : A5) (h : I a1 a2 a3 a4 a5) : ∃ n, W n a1 a2 a3 a4 a5 :=
  loop_m (σ := A1 × A2 × A3 × A4 × A5) (fun n s => W n s.1 s.2.1 s.2.2.1 s.2.2.2.1 s.2.2.2.2) (fun s => I s.1 s.2.1 s.2.2.1 s.2.2.2.1 s.2.2.2.2) (fun s => μ s.1 s.2.1 s.2.2.1 s.2.2.2.1 s.2.2.2.2) (fun n s hI hk => hs n s.1 s.2.1 s.2.2.1 s.2.2.2.1 s.2.2.2.2 hI (fun b1 b2 b3 b4 b5 h9 hm => hk (b1, b2, b3, b4, b5) h9 hm)) (a1, a2, a3, a4, a5) h
theorem lp6 {A1 A2 A3 A4 A5 A6 : Type} (W : Nat → A1 → A2 → A3 → A4 → A5 → A6 → Prop) (I : A1 → A2 → A3 → A4 → A5 → A6 → Prop) (μ : A1 → A2 → A3 → A4 → A5 → A6 → Nat) (hs : ∀ (n : Nat) (a1 : A1) (a2 : A2) (a3 : A3) (a4 : A4) (a5 : A5) (a6 : A6), I a1 a2 a3 a4 a5 a6 → (∀ (b1 : A1) (b2 : A2) (b3 : A3) (b4 : A4) (b5 : A5) (b6 : A6), I b1 b2 b3 b4 b5 b6 → μ b1 b2 b3 b4 b5 b6 < μ a1 a2 a3 a4 a5 a6 → W n b1 b2 b3 b4 b5 b6) → W (n + 1) a1 a2 a3 a4 a5 a6) (a1 : A1) (a2 : A2) (a3 : A3) (a4 : A4) (a5 : A5) (a6 : A6) (h : I a1 a2 a3 a4 a5 a6) : ∃ n, W n a1 a2 a3 a4 a5 a6 :=
  loop_m (σ := A1 × A2 × A3 × A4 × A5 × A6) (fun n s => W n s.1 s.2.1 s.2.2.1 s.2.2.2.1 s.2.2.2.2.1 s.2.2.2.2.2) (fun s => I s.1 s.2.1 s.2.2.1 s.2.2.2.1 s.2.2.2.2.1 s.2.2.2.2.2) (fun s => μ s.1 s.2.1 s.2.2.1 s.2.2.2.1 s.2.2.2.2.1 s.2.2.2.2.2) (fun n s hI hk => hs n s.1 s.2.1 s.2.2.1 s.2.2.2.1 s.2.2.2.2.1 s.2.2.2.2.2 hI (fun b1 b2 b3 b4 b5 b6 h9 hm => hk (b1, b2, b3, b4, b5, b6) h9 hm)) (a1, a2, a3, a4, a5, a6) h
theorem lp7 {A1 A2 A3 A4 A5 A6 A7 : Type} (W : Nat → A1 → A2 → A3 → A4 → A5 → A6 → A7 → Prop) (I : A1 → A2 → A3 → A4 → A5 → A6 → A7 → Prop) (μ : A1 → A2 → A3 → A4 → A5 → A6 → A7 → Nat) (hs : ∀ (n : Nat) (a1 : A1) (a2 : A2) (a3 : A3) (a4 : A4) (a5 : A5) (a6 : A6) (a7 : A7), I a1 a2 a3 a4 a5 a6 a7 → (∀ (b1 : A1) (b2 : A2) (b3 : A3) (b4 : A4) (b5 : A5) (b6 : A6) (b7 : A7), I b1 b2 b3 b4 b5 b6 b7 → μ b1 b2 b3 b4 b5 b6 b7 < μ a1 a2 a3 a4 a5 a6 a7 → W n b1 b2 b3 b4 b5 b6 b7) → W (n + 1) a1 a2 a3 a4 a5 a6 a7) (a1 : A1) (a2 : A2) (a3 : A3) (a4 : A4) (a5 : A5) (a6 : A6) (a7 : A7) (h : I a1 a2 a3 a4 a5 a6 a7) : ∃ n, W n a1 a2 a3 a4 a5 a6 a7 :=
  loop_m (σ := A1 × A2 × A3 × A4 × A5 × A6 × A7) (fun n s => W n s.1 s.2.1 s.2.2.1 s.2.2.2.1 s.2.2.2.2.1 s.2.2.2.2.2.1 s.2.2.2.2.2.2) (fun s => I s.1 s.2.1 s.2.2.1 s.2.2.2.1 s.2.2.2.2.1 s.2.2.2.2.2.1 s.2.2.2.2.2.2) (fun s => μ s.1 s.2.1 s.2.2.1 s.2.2.2.1 s.2.2.2.2.1 s.2.2.2.2.2.1 s.2.2.2.2.2.2) (fun n s hI hk => hs n s.1 s.2.1 s.2.2.1 s.2.2.2.1 s.2.2.2.2.1 s.2.2.2.2.2.1 s.2.2.2.2.2.2 hI (fun b1 b2 b3 b4 b5 b6 b7 h9 hm => hk (b1, b2, b3, b4, b5, b6, b7) h9 hm)) (a1, a2, a3, a4, a5, a6, a7) h
theorem lp8 {A1 A2 A3 A4 A5 A6 A7 A8 : Type} (W : Nat → A1 → A2 → A3 → A4 → A5 → A6 → A7 → A8 → Prop) (I : A1 → A2 → A3 → A4 → A5 → A6 → A7 → A8 → Prop) (μ : A1 → A2 → A3 → A4 → A5 → A6 → A7 → A8 → Nat) (hs : ∀ (n : Nat) (a1 : A1) (a2 : A2) (a3 : A3) (a4 : A4) (a5 : A5) (a6 : A6) (a7 : A7) (a8 : A8), I a1 a2 a3 a4 a5 a6 a7 a8 → (∀ (b1 : A1) (b2 : A2) (b3 : A3) (b4 : A4) (b5 : A5) (b6 : A6) (b7 : A7) (b8 : A8), I b1 b2 b3 b4 b5 b6 b7 b8 → μ b1 b2 b3 b4 b5 b6 b7 b8 < μ a1 a2 a3 a4 a5 a6 a7 a8 → W n b1 b2 b3 b4 b5 b6 b7 b8) → W (n + 1) a1 a2 a3 a4 a5 a6 a7 a8) (a1 : A1) (a2 : A2) (a3 : A3) (a4 : A4) (a5 : A5) (a6 : A6) (a7 : A7) (a8 : A8) (h : I a1 a2 a3 a4 a5 a6 a7 a8) : ∃ n, W n a1 a2 a3 a4 a5 a6 a7 a8 :=
  loop_m (σ := A1 × A2 × A3 × A4 × A5 × A6 × A7 × A8) (fun n s => W n s.1 s.2.1 s.2.2.1 s.2.2.2.1 s.2.2.2.2.1 s.2.2.2.2.2.1 s.2.2.2.2.2.2.1 s.2.2.2.2.2.2.2) (fun s => I s.1 s.2.1 s.2.2.1 s.2.2.2.1 s.2.2.2.2.1 s.2.2.2.2.2.1 s.2.2.2.2.2.2.1 s.2.2.2.2.2.2.2) (fun s => μ s.1 s.2.1 s.2.2.1 s.2.2.2.1 s.2.2.2.2.1 s.2.2.2.2.2.1 s.2.2.2.2.2.2.1 s.2.2.2.2.2.2.2) (fun n s hI hk => hs n s.1 s.2.1 s.2.2.1 s.2.2.2.1 s.2.2.2.2.1 s.2.2.2.2.2.1 s.2.2.2.2.2.2.1 s.2.2.2.2.2.2.2 hI (fun b1 b2 b3 b4 b5 b6 b7 b8 h9 hm => hk (b1, b2, b3, b4, b5, b6, b7, b8) h9 hm)) (a1, a2, a3, a4, a5, a6, a7, a8) h
theorem lp9 {A1 A2 A3 A4 A5 A6 A7 A8 A9 : Type} (W : Nat → A1 → A2 → A3 → A4 → A5 → A6 → A7 → A8 → A9 → Prop) (I : A1 → A2 → A3 → A4 → A5 → A6 → A7 → A8 → A9 → Prop) (μ : A1 → A2 → A3 → A4 → A5 → A6 → A7 → A8 → A9 → Nat) (hs : ∀ (n : Nat) (a1 : A1) (a2 : A2) (a3 : A3) (a4 : A4) (a5 : A5) (a6 : A6) (a7 : A7) (a8 : A8) (a9 : A9), I a1 a2 a3 a4 a5 a6 a7 a8 a9 → (∀ (b1 : A1) (b2 : A2) (b3 : A3) (b4 : A4) (b5 : A5) (b6 : A6) (b7 : A7) (b8 : A8) (b9 : A9), I b1 b2 b3 b4 b5 b6 b7 b8 b9 → μ b1 b2 b3 b4 b5 b6 b7 b8 b9 < μ a1 a2 a3 a4 a5 a6 a7 a8 a9 → W n b1 b2 b3 b4 b5 b6 b7 b8 b9) → W (n + 1) a1 a2 a3 a4 a5 a6 a7 a8 a9) (a1 : A1) (a2 : A2) (a3 : A3) (a4 : A4) (a5 : A5) (a6 : A6) (a7 : A7) (a8 : A8) (a9 : A9) (h : I a1 a2 a3 a4 a5 a6 a7 a8 a9) : ∃ n, W n a1 a2 a3 a4 a5 a6 a7 a8 a9 :=
  loop_m (σ := A1 × A2 × A3 × A4 × A5 × A6 × A7 × A8 × A9) (fun n s => W n s.1 s.2.1 s.2.2.1 s.2.2.2.1 s.2.2.2.2.1 s.2.2.2.2.2.1 s.2.2.2.2.2.2.1 s.2.2.2.2.2.2.2.1 s.2.2.2.2.2.2.2.2) (fun s => I s.1 s.2.1 s.2.2.1 s.2.2.2.1 s.2.2.2.2.1 s.2.2.2.2.2.1 s.2.2.2.2.2.2.1 s.2.2.2.2.2.2.2.1 s.2.2.2.2.2.2.2.2) (fun s => μ s.1 s.2.1 s.2.2.1 s.2.2.2.1 s.2.2.2.2.1 s.2.2.2.2.2.1 s.2.2.2.2.2.2.1 s.2.2.2.2.2.2.2.1 s.2.2.2.2.2.2.2.2) (fun n s hI hk => hs n s.1 s.2.1 s.2.2.1 s.2.2.2.1 s.2.2.2.2.1 s.2.2.2.2.2.1 s.2.2.2.2.2.2.1 s.2.2.2.2.2.2.2.1 s.2.2.2.2.2.2.2.2 hI (fun b1 b2 b3 b4 b5 b6 b7 b8 b9 h9 hm => hk (b1, b2, b3, b4, b5, b6, b7, b8, b9) h9 hm)) (a1, a2, a3, a4, a5, a6, a7, a8, a9) h
theorem lp10 {A1 A2 A3 A4 A5 A6 A7 A8 A9 A10 : Type} (W : Nat → A1 → A2 → A3 → A4 → A5 → A6 → A7 → A8 → A9 → A10 → Prop) (I : A1 → A2 → A3 → A4 → A5 → A6 → A7 → A8 → A9 → A10 → Prop) (μ : A1 → A2 → A3 → A4 → A5 → A6 → A7 → A8 → A9 → A10 → Nat) (hs : ∀ (n : Nat) (a1 : A1) (a2 : A2) (a3 : A3) (a4 : A4) (a5 : A5) (a6 : A6) (a7 : A7) (a8 : A8) (a9 : A9) (a10 : A10), I a1 a2 a3 a4 a5 a6 a7 a8 a9 a10 → (∀ (b1 : A1) (b2 : A2) (b3 : A3) (b4 : A4) (b5 : A5) (b6 : A6) (b7 : A7) (b8 : A8) (b9 : A9) (b10 : A10), I b1 b2 b3 b4 b5 b6 b7 b8 b9 b10 → μ b1 b2 b3 b4 b5 b6 b7 b8 b9 b10 < μ a1 a2 a3 a4 a5 a6 a7 a8 a9 a10 → W n b1 b2 b3 b4 b5 b6 b7 b8 b9 b10) → W (n + 1) a1 a2 a3 a4 a5 a6 a7 a8 a9 a10) (a1 : A1) (a2 : A2) (a3 : A3) (a4 : A4) (a5 : A5) (a6 : A6) (a7 : A7) (a8 : A8) (a9 : A9) (a10 : A10) (h : I a1 a2 a3 a4 a5 a6 a7 a8 a9 a10) : ∃ n, W n a1 a2 a3 a4 a5 a6 a7 a8 a9 a10 :=
  loop_m (σ := A1 × A2 × A3 × A4 × A5 × A6 × A7 × A8 × A9 × A10) (fun n s => W n s.1 s.2.1 s.2.2.1 s.2.2.2.1 s.2.2.2.2.1 s.2.2.2.2.2.1 s.2.2.2.2.2.2.1 s.2.2.2.2.2.2.2.1 s.2.2.2.2.2.2.2.2.1 s.2.2.2.2.2.2.2.2.2) (fun s => I s.1 s.2.1 s.2.2.1 s.2.2.2.1 s.2.2.2.2.1 s.2.2.2.2.2.1 s.2.2.2.2.2.2.1 s.2.2.2.2.2.2.2.1 s.2.2.2.2.2.2.2.2.1 s.2.2.2.2.2.2.2.2.2) (fun s => μ s.1 s.2.1 s.2.2.1 s.2.2.2.1 s.2.2.2.2.1 s.2.2.2.2.2.1 s.2.2.2.2.2.2.1 s.2.2.2.2.2.2.2.1 s.2.2.2.2.2.2.2.2.1 s.2.2.2.2.2.2.2.2.2) (fun n s hI hk => hs n s.1 s.2.1 s.2.2.1 s.2.2.2.1 s.2.2.2.2.1 s.2.2.2.2.2.1 s.2.2.2.2.2.2.1 s.2.2.2.2.2.2.2.1 s.2.2.2.2.2.2.2.2.1 s.2.2.2.2.2.2.2.2.2 hI (fun b1 b2 b3 b4 b5 b6 b7 b8 b9 b10 h9 hm => hk (b1, b2, b3, b4, b5, b6, b7, b8, b9, b10) h9 hm)) (a1, a2, a3, a4, a5, a6, a7, a8, a9, a10) h
theorem lp11 {A1 A2 A3 A4 A5 A6 A7 A8 A9 A10 A11 : Type} (W : Nat → A1 → A2 → A3 → A4 → A5 → A6 → A7 → A8 → A9 → A10 → A11 → Prop) (I : A1 → A2 → A3 → A4 → A5 → A6 → A7 → A8 → A9 → A10 → A11 → Prop) (μ : A1 → A2 → A3 → A4 → A5 → A6 → A7 → A8 → A9 → A10 → A11 → Nat) (hs : ∀ (n : Nat) (a1 : A1) (a2 : A2) (a3 : A3) (a4 : A4) (a5 : A5) (a6 : A6) (a7 : A7) (a8 : A8) (a9 : A9) (a10 : A10) (a11 : A11), I a1 a2 a3 a4 a5 a6 a7 a8 a9 a10 a11 → (∀ (b1 : A1) (b2 : A2) (b3 : A3) (b4 : A4) (b5 : A5) (b6 : A6) (b7 : A7) (b8 : A8) (b9 : A9) (b10 : A10) (b11 : A11), I b1 b2 b3 b4 b5 b6 b7 b8 b9 b10 b11 → μ b1 b2 b3 b4 b5 b6 b7 b8 b9 b10 b11 < μ a1 a2 a3 a4 a5 a6 a7 a8 a9 a10 a11 → W n b1 b2 b3 b4 b5 b6 b7 b8 b9 b10 b11) → W (n + 1) a1 a2 a3 a4 a5 a6 a7 a8 a9 a10 a11) (a1 : A1) (a2 : A2) (a3 : A3) (a4 : A4) (a5 : A5) (a6 : A6) (a7 : A7) (a8 : A8) (a9 : A9) (a10 : A10) (a11 : A11) (h : I a1 a2 a3 a4 a5 a6 a7 a8 a9 a10 a11) : ∃ n, W n a1 a2 a3 a4 a5 a6 a7 a8 a9 a10 a11 :=
  loop_m (σ := A1 × A2 × A3 × A4 × A5 × A6 × A7 × A8 × A9 × A10 × A11) (fun n s => W n s.1 s.2.1 s.2.2.1 s.2.2.2.1 s.2.2.2.2.1 s.2.2.2.2.2.1 s.2.2.2.2.2.2.1 s.2.2.2.2.2.2.2.1 s.2.2.2.2.2.2.2.2.1 s.2.2.2.2.2.2.2.2.2.1 s.2.2.2.2.2.2.2.2.2.2) (fun s => I s.1 s.2.1 s.2.2.1 s.2.2.2.1 s.2.2.2.2.1 s.2.2.2.2.2.1 s.2.2.2.2.2.2.1 s.2.2.2.2.2.2.2.1 s.2.2.2.2.2.2.2.2.1 s.2.2.2.2.2.2.2.2.2.1 s.2.2.2.2.2.2.2.2.2.2) (fun s => μ s.1 s.2.1 s.2.2.1 s.2.2.2.1 s.2.2.2.2.1 s.2.2.2.2.2.1 s.2.2.2.2.2.2.1 s.2.2.2.2.2.2.2.1 s.2.2.2.2.2.2.2.2.1 s.2.2.2.2.2.2.2.2.2.1 s.2.2.2.2.2.2.2.2.2.2) (fun n s hI hk => hs n s.1 s.2.1 s.2.2.1 s.2.2.2.1 s.2.2.2.2.1 s.2.2.2.2.2.1 s.2.2.2.2.2.2.1 s.2.2.2.2.2.2.2.1 s.2.2.2.2.2.2.2.2.1 s.2.2.2.2.2.2.2.2.2.1 s.2.2.2.2.2.2.2.2.2.2 hI (fun b1 b2 b3 b4 b5 b6 b7 b8 b9 b10 b11 h9 hm => hk (b1, b2, b3, b4, b5, b6, b7, b8, b9, b10, b11) h9 hm)) (a1, a2, a3, a4, a5, a6, a7, a8, a9, a10, a11) h
theorem lp12 {A1 A2 A3 A4 A5 A6 A7 A8 A9 A10 A11 A12 : Type} (W : Nat → A1 → A2 → A3 → A4 → A5 → A6 → A7 → A8 → A9 → A10 → A11 → A12 → Prop) (I : A1 → A2 → A3 → A4 → A5 → A6 → A7 → A8 → A9 → A10 → A11 → A12 → Prop) (μ : A1 → A2 → A3 → A4 → A5 → A6 → A7 → A8 → A9 → A10 → A11 → A12 → Nat) (hs : ∀ (n : Nat) (a1 : A1) (a2 : A2) (a3 : A3) (a4 : A4) (a5 : A5) (a6 : A6) (a7 : A7) (a8 : A8) (a9 : A9) (a10 : A10) (a11 : A11) (a12 : A12), I a1 a2 a3 a4 a5 a6 a7 a8 a9 a10 a11 a12 → (∀ (b1 : A1) (b2 : A2) (b3 : A3) (b4 : A4) (b5 : A5) (b6 : A6) (b7 : A7) (b8 : A8) (b9 : A9) (b10 : A10) (b11 : A11) (b12 : A12), I b1 b2 b3 b4 b5 b6 b7 b8 b9 b10 b11 b12 → μ b1 b2 b3 b4 b5 b6 b7 b8 b9 b10 b11 b12 < μ a1 a2 a3 a4 a5 a6 a7 a8 a9 a10 a11 a12 → W n b1 b2 b3 b4 b5 b6 b7 b8 b9 b10 b11 b12) → W (n + 1) a1 a2 a3 a4 a5 a6 a7 a8 a9 a10 a11 a12) (a1 : A1) (a2 : A2) (a3 : A3) (a4 : A4) (a5 : A5) (a6 : A6) (a7 : A7) (a8 : A8) (a9 : A9) (a10 : A10) (a11 : A11) (a12 : A12) (h : I a1 a2 a3 a4 a5 a6 a7 a8 a9 a10 a11 a12) : ∃ n, W n a1 a2 a3 a4 a5 a6 a7 a8 a9 a10 a11 a12 :=
  loop_m (σ := A1 × A2 × A3 × A4 × A5 × A6 × A7 × A8 × A9 × A10 × A11 × A12) (fun n s => W n s.1 s.2.1 s.2.2.1 s.2.2.2.1 s.2.2.2.2.1 s.2.2.2.2.2.1 s.2.2.2.2.2.2.1 s.2.2.2.2.2.2.2.1 s.2.2.2.2.2.2.2.2.1 s.2.2.2.2.2.2.2.2.2.1 s.2.2.2.2.2.2.2.2.2.2.1 s.2.2.2.2.2.2.2.2.2.2.2) (fun s => I s.1 s.2.1 s.2.2.1 s.2.2.2.1 s.2.2.2.2.1 s.2.2.2.2.2.1 s.2.2.2.2.2.2.1 s.2.2.2.2.2.2.2.1 s.2.2.2.2.2.2.2.2.1 s.2.2.2.2.2.2.2.2.2.1 s.2.2.2.2.2.2.2.2.2.2.1 s.2.2.2.2.2.2.2.2.2.2.2) (fun s => μ s.1 s.2.1 s.2.2.1 s.2.2.2.1 s.2.2.2.2.1 s.2.2.2.2.2.1 s.2.2.2.2.2.2.1 s.2.2.2.2.2.2.2.1 s.2.2.2.2.2.2.2.2.1 s.2.2.2.2.2.2.2.2.2.1 s.2.2.2.2.2.2.2.2.2.2.1 s.2.2.2.2.2.2.2.2.2.2.2) (fun n s hI hk => hs n s.1 s.2.1 s.2.2.1 s.2.2.2.1 s.2.2.2.2.1 s.2.2.2.2.2.1 s.2.2.2.2.2.2.1 s.2.2.2.2.2.2.2.1 s.2.2.2.2.2.2.2.2.1 s.2.2.2.2.2.2.2.2.2.1 s.2.2.2.2.2.2.2.2.2.2.1 s.2.2.2.2.2.2.2.2.2.2.2 hI (fun b1 b2 b3 b4 b5 b6 b7 b8 b9 b10 b11 b12 h9 hm => hk (b1, b2, b3, b4, b5, b6, b7, b8, b9, b10, b11, b12) h9 hm)) (a1, a2, a3, a4, a5, a6, a7, a8, a9, a10, a11, a12) h
theorem lp13 {A1 A2 A3 A4 A5 A6 A7 A8 A9 A10 A11 A12 A13 : Type} (W : Nat → A1 → A2 → A3 → A4 → A5 → A6 → A7 → A8 → A9 → A10 → A11 → A12 → A13 → Prop) (I : A1 → A2 → A3 → A4 → A5 → A6 → A7 → A8 → A9 → A10 → A11 → A12 → A13 → Prop) (μ : A1 → A2 → A3 → A4 → A5 → A6 → A7 → A8 → A9 → A10 → A11 → A12 → A13 → Nat) (hs : ∀ (n : Nat) (a1 : A1) (a2 : A2) (a3 : A3) (a4 : A4) (a5 : A5) (a6 : A6) (a7 : A7) (a8 : A8) (a9 : A9) (a10 : A10) (a11 : A11) (a12 : A12) (a13 : A13), I a1 a2 a3 a4 a5 a6 a7 a8 a9 a10 a11 a12 a13 → (∀ (b1 : A1) (b2 : A2) (b3 : A3) (b4 : A4) (b5 : A5) (b6 : A6) (b7 : A7) (b8 : A8) (b9 : A9) (b10 : A10) (b11 : A11) (b12 : A12) (b13 : A13), I b1 b2 b3 b4 b5 b6 b7 b8 b9 b10 b11 b12 b13 → μ b1 b2 b3 b4 b5 b6 b7 b8 b9 b10 b11 b12 b13 < μ a1 a2 a3 a4 a5 a6 a7 a8 a9 a10 a11 a12 a13 → W n b1 b2 b3 b4 b5 b6 b7 b8 b9 b10 b11 b12 b13) → W (n + 1) a1 a2 a3 a4 a5 a6 a7 a8 a9 a10 a11 a12 a13) (a1 : A1) (a2 : A2) (a3 : A3) (a4 : A4) (a5 : A5) (a6 : A6) (a7 : A7) (a8 : A8) (a9 : A9) (a10 : A10) (a11 : A11) (a12 : A12) (a13 : A13) (h : I a1 a2 a3 a4 a5 a6 a7 a8 a9 a10 a11 a12 a13) : ∃ n, W n a1 a2 a3 a4 a5 a6 a7 a8 a9 a10 a11 a12 a13 :=
  loop_m (σ := A1 × A2 × A3 × A4 × A5 × A6 × A7 × A8 × A9 × A10 × A11 × A12 × A13) (fun n s => W n s.1 s.2.1 s.2.2.1 s.2.2.2.1 s.2.2.2.2.1 s.2.2.2.2.2.1 s.2.2.2.2.2.2.1 s.2.2.2.2.2.2.2.1 s.2.2.2.2.2.2.2.2.1 s.2.2.2.2.2.2.2.2.2.1 s.2.2.2.2.2.2.2.2.2.2.1 s.2.2.2.2.2.2.2.2.2.2.2.1 s.2.2.2.2.2.2.2.2.2.2.2.2) (fun s => I s.1 s.2.1 s.2.2.1 s.2.2.2.1 s.2.2.2.2.1 s.2.2.2.2.2.1 s.2.2.2.2.2.2.1 s.2.2.2.2.2.2.2.1 s.2.2.2.2.2.2.2.2.1 s.2.2.2.2.2.2.2.2.2.1 s.2.2.2.2.2.2.2.2.2.2.1 s.2.2.2.2.2.2.2.2.2.2.2.1 s.2.2.2.2.2.2.2.2.2.2.2.2) (fun s => μ s.1 s.2.1 s.2.2.1 s.2.2.2.1 s.2.2.2.2.1 s.2.2.2.2.2.1 s.2.2.2.2.2.2.1 s.2.2.2.2.2.2.2.1 s.2.2.2.2.2.2.2.2.1 s.2.2.2.2.2.2.2.2.2.1 s.2.2.2.2.2.2.2.2.2.2.1 s.2.2.2.2.2.2.2.2.2.2.2.1 s.2.2.2.2.2.2.2.2.2.2.2.2) (fun n s hI hk => hs n s.1 s.2.1 s.2.2.1 s.2.2.2.1 s.2.2.2.2.1 s.2.2.2.2.2.1 s.2.2.2.2.2.2.1 s.2.2.2.2.2.2.2.1 s.2.2.2.2.2.2.2.2.1 s.2.2.2.2.2.2.2.2.2.1 s.2.2.2.2.2.2.2.2.2.2.1 s.2.2.2.2.2.2.2.2.2.2.2.1 s.2.2.2.2.2.2.2.2.2.2.2.2 hI (fun b1 b2 b3 b4 b5 b6 b7 b8 b9 b10 b11 b12 b13 h9 hm => hk (b1, b2, b3, b4, b5, b6, b7, b8, b9, b10, b11, b12, b13) h9 hm)) (a1, a2, a3, a4, a5, a6, a7, a8, a9, a10, a11, a12, a13) h
theorem lp14 {A1 A2 A3 A4 A5 A6 A7 A8 A9 A10 A11 A12 A13 A14 : Type} (W : Nat → A1 → A2 → A3 → A4 → A5 → A6 → A7 → A8 → A9 → A10 → A11 → A12 → A13 → A14 → Prop) (I : A1 → A2 → A3 → A4 → A5 → A6 → A7 → A8 → A9 → A10 → A11 → A12 → A13 → A14 → Prop) (μ : A1 → A2 → A3 → A4 → A5 → A6 → A7 → A8 → A9 → A10 → A11 → A12 → A13 → A14 → Nat) (hs : ∀ (n : Nat) (a1 : A1) (a2 : A2) (a3 : A3) (a4 : A4) (a5 : A5) (a6 : A6) (a7 : A7) (a8 : A8) (a9 : A9) (a10 : A10) (a11 : A11) (a12 : A12) (a13 : A13) (a14 : A14), I a1 a2 a3 a4 a5 a6 a7 a8 a9 a10 a11 a12 a13 a14 → (∀ (b1 : A1) (b2 : A2) (b3 : A3) (b4 : A4) (b5 : A5) (b6 : A6) (b7 : A7) (b8 : A8) (b9 : A9) (b10 : A10) (b11 : A11) (b12 : A12) (b13 : A13) (b14 : A14), I b1 b2 b3 b4 b5 b6 b7 b8 b9 b10 b11 b12 b13 b14 → μ b1 b2 b3 b4 b5 b6 b7 b8 b9 b10 b11 b12 b13 b14 < μ a1 a2 a3 a4 a5 a6 a7 a8 a9 a10 a11 a12 a13 a14 → W n b1 b2 b3 b4 b5 b6 b7 b8 b9 b10 b11 b12 b13 b14) → W (n + 1) a1 a2 a3 a4 a5 a6 a7 a8 a9 a10 a11 a12 a13 a14) (a1 : A1) (a2 : A2) (a3 : A3) (a4 : A4) (a5 : A5) (a6 : A6) (a7 : A7) (a8 : A8) (a9 : A9) (a10 : A10) (a11 : A11) (a12 : A12) (a13 : A13) (a14 : A14) (h : I a1 a2 a3 a4 a5 a6 a7 a8 a9 a10 a11 a12 a13 a14) : ∃ n, W n a1 a2 a3 a4 a5 a6 a7 a8 a9 a10 a11 a12 a13 a14 :=
  loop_m (σ := A1 × A2 × A3 × A4 × A5 × A6 × A7 × A8 × A9 × A10 × A11 × A12 × A13 × A14) (fun n s => W n s.1 s.2.1 s.2.2.1 s.2.2.2.1 s.2.2.2.2.1 s.2.2.2.2.2.1 s.2.2.2.2.2.2.1 s.2.2.2.2.2.2.2.1 s.2.2.2.2.2.2.2.2.1 s.2.2.2.2.2.2.2.2.2.1 s.2.2.2.2.2.2.2.2.2.2.1 s.2.2.2.2.2.2.2.2.2.2.2.1 s.2.2.2.2.2.2.2.2.2.2.2.2.1 s.2.2.2.2.2.2.2.2.2.2.2.2.2) (fun s => I s.1 s.2.1 s.2.2.1 s.2.2.2.1 s.2.2.2.2.1 s.2.2.2.2.2.1 s.2.2.2.2.2.2.1 s.2.2.2.2.2.2.2.1 s.2.2.2.2.2.2.2.2.1 s.2.2.2.2.2.2.2.2.2.1 s.2.2.2.2.2.2.2.2.2.2.1 s.2.2.2.2.2.2.2.2.2.2.2.1 s.2.2.2.2.2.2.2.2.2.2.2.2.1 s.2.2.2.2.2.2.2.2.2.2.2.2.2) (fun s => μ s.1 s.2.1 s.2.2.1 s.2.2.2.1 s.2.2.2.2.1 s.2.2.2.2.2.1 s.2.2.2.2.2.2.1 s.2.2.2.2.2.2.2.1 s.2.2.2.2.2.2.2.2.1 s.2.2.2.2.2.2.2.2.2.1 s.2.2.2.2.2.2.2.2.2.2.1 s.2.2.2.2.2.2.2.2.2.2.2.1 s.2.2.2.2.2.2.2.2.2.2.2.2.1 s.2.2.2.2.2.2.2.2.2.2.2.2.2) (fun n s hI hk => hs n s.1 s.2.1 s.2.2.1 s.2.2.2.1 s.2.2.2.2.1 s.2.2.2.2.2.1 s.2.2.2.2.2.2.1 s.2.2.2.2.2.2.2.1 s.2.2.2.2.2.2.2.2.1 s.2.2.2.2.2.2.2.2.2.1 s.2.2.2.2.2.2.2.2.2.2.1 s.2.2.2.2.2.2.2.2.2.2.2.1 s.2.2.2.2.2.2.2.2.2.2.2.2.1 s.2.2.2.2.2.2.2.2.2.2.2.2.2 hI (fun b1 b2 b3 b4 b5 b6 b7 b8 b9 b10 b11 b12 b13 b14 h9 hm => hk (b1, b2, b3, b4, b5, b6, b7, b8, b9, b10, b11, b12, b13, b14) h9 hm)) (a1, a2, a3, a4, a5, a6, a7, a8, a9, a10, a11, a12, a13, a14) h
theorem lp15 {A1 A2 A3 A4 A5 A6 A7 A8 A9 A10 A11 A12 A13 A14 A15 : Type} (W : Nat → A1 → A2 → A3 → A4 → A5 → A6 → A7 → A8 → A9 → A10 → A11 → A12 → A13 → A14 → A15 → Prop) (I : A1 → A2 → A3 → A4 → A5 → A6 → A7 → A8 → A9 → A10 → A11 → A12 → A13 → A14 → A15 → Prop) (μ : A1 → A2 → A3 → A4 → A5 → A6 → A7 → A8 → A9 → A10 → A11 → A12 → A13 → A14 → A15 → Nat) (hs : ∀ (n : Nat) (a1 : A1) (a2 : A2) (a3 : A3) (a4 : A4) (a5 : A5) (a6 : A6) (a7 : A7) (a8 : A8) (a9 : A9) (a10 : A10) (a11 : A11) (a12 : A12) (a13 : A13) (a14 : A14) (a15 : A15), I a1 a2 a3 a4 a5 a6 a7 a8 a9 a10 a11 a12 a13 a14 a15 → (∀ (b1 : A1) (b2 : A2) (b3 : A3) (b4 : A4) (b5 : A5) (b6 : A6) (b7 : A7) (b8 : A8) (b9 : A9) (b10 : A10) (b11 : A11) (b12 : A12) (b13 : A13) (b14 : A14) (b15 : A15), I b1 b2 b3 b4 b5 b6 b7 b8 b9 b10 b11 b12 b13 b14 b15 → μ b1 b2 b3 b4 b5 b6 b7 b8 b9 b10 b11 b12 b13 b14 b15 < μ a1 a2 a3 a4 a5 a6 a7 a8 a9 a10 a11 a12 a13 a14 a15 → W n b1 b2 b3 b4 b5 b6 b7 b8 b9 b10 b11 b12 b13 b14 b15) → W (n + 1) a1 a2 a3 a4 a5 a6 a7 a8 a9 a10 a11 a12 a13 a14 a15) (a1 : A1) (a2 : A2) (a3 : A3) (a4 : A4) (a5 : A5) (a6 : A6) (a7 : A7) (a8 : A8) (a9 : A9) (a10 : A10) (a11 : A11) (a12 : A12) (a13 : A13) (a14 : A14) (a15 : A15) (h : I a1 a2 a3 a4 a5 a6 a7 a8 a9 a10 a11 a12 a13 a14 a15) : ∃ n, W n a1 a2 a3 a4 a5 a6 a7 a8 a9 a10 a11 a12 a13 a14 a15 :=
  loop_m (σ := A1 × A2 × A3 × A4 × A5 × A6 × A7 × A8 × A9 × A10 × A11 × A12 × A13 × A14 × A15) (fun n s => W n s.1 s.2.1 s.2.2.1 s.2.2.2.1 s.2.2.2.2.1 s.2.2.2.2.2.1 s.2.2.2.2.2.2.1 s.2.2.2.2.2.2.2.1 s.2.2.2.2.2.2.2.2.1 s.2.2.2.2.2.2.2.2.2.1 s.2.2.2.2.2.2.2.2.2.2.1 s.2.2.2.2.2.2.2.2.2.2.2.1 s.2.2.2.2.2.2.2.2.2.2.2.2.1 s.2.2.2.2.2.2.2.2.2.2.2.2.2.1 s.2.2.2.2.2.2.2.2.2.2.2.2.2.2) (fun s => I s.1 s.2.1 s.2.2.1 s.2.2.2.1 s.2.2.2.2.1 s.2.2.2.2.2.1 s.2.2.2.2.2.2.1 s.2.2.2.2.2.2.2.1 s.2.2.2.2.2.2.2.2.1 s.2.2.2.2.2.2.2.2.2.1 s.2.2.2.2.2.2.2.2.2.2.1 s.2.2.2.2.2.2.2.2.2.2.2.1 s.2.2.2.2.2.2.2.2.2.2.2.2.1 s.2.2.2.2.2.2.2.2.2.2.2.2.2.1 s.2.2.2.2.2.2.2.2.2.2.2.2.2.2) (fun s => μ s.1 s.2.1 s.2.2.1 s.2.2.2.1 s.2.2.2.2.1 s.2.2.2.2.2.1 s.2.2.2.2.2.2.1 s.2.2.2.2.2.2.2.1 s.2.2.2.2.2.2.2.2.1 s.2.2.2.2.2.2.2.2.2.1 s.2.2.2.2.2.2.2.2.2.2.1 s.2.2.2.2.2.2.2.2.2.2.2.1 s.2.2.2.2.2.2.2.2.2.2.2.2.1 s.2.2.2.2.2.2.2.2.2.2.2.2.2.1 s.2.2.2.2.2.2.2.2.2.2.2.2.2.2) (fun n s hI hk => hs n s.1 s.2.1 s.2.2.1 s.2.2.2.1 s.2.2.2.2.1 s.2.2.2.2.2.1 s.2.2.2.2.2.2.1 s.2.2.2.2.2.2.2.1 s.2.2.2.2.2.2.2.2.1 s.2.2.2.2.2.2.2.2.2.1 s.2.2.2.2.2.2.2.2.2.2.1 s.2.2.2.2.2.2.2.2.2.2.2.1 s.2.2.2.2.2.2.2.2.2.2.2.2.1 s.2.2.2.2.2.2.2.2.2.2.2.2.2.1 s.2.2.2.2.2.2.2.2.2.2.2.2.2.2 hI (fun b1 b2 b3 b4 b5 b6 b7 b8 b9 b10 b11 b12 b13 b14 b15 h9 hm => hk (b1, b2, b3, b4, b5, b6, b7, b8, b9, b10, b11, b12, b13, b14, b15) h9 hm)) (a1, a2, a3, a4, a5, a6, a7, a8, a9, a10, a11, a12, a13, a14, a15) h
theorem lp16 {A1 A2 A3 A4 A5 A6 A7 A8 A9 A10 A11 A12 A13 A14 A15 A16 : Type} (W : Nat → A1 → A2 → A3 → A4 → A5 → A6 → A7 → A8 → A9 → A10 → A11 → A12 → A13 → A14 → A15 → A16 → Prop) (I : A1 → A2 → A3 → A4 → A5 → A6 → A7 → A8 → A9 → A10 → A11 → A12 → A13 → A14 → A15 → A16 → Prop) (μ : A1 → A2 → A3 → A4 → A5 → A6 → A7 → A8 → A9 → A10 → A11 → A12 → A13 → A14 → A15 → A16 → Nat) (hs : ∀ (n : Nat) (a1 : A1) (a2 : A2) (a3 : A3) (a4 : A4) (a5 : A5) (a6 : A6) (a7 : A7) (a8 : A8) (a9 : A9) (a10 : A10) (a11 : A11) (a12 : A12) (a13 : A13) (a14 : A14) (a15 : A15) (a16 : A16), I a1 a2 a3 a4 a5 a6 a7 a8 a9 a10 a11 a12 a13 a14 a15 a16 → (∀ (b1 : A1) (b2 : A2) (b3 : A3) (b4 : A4) (b5 : A5) (b6 : A6) (b7 : A7) (b8 : A8) (b9 : A9) (b10 : A10) (b11 : A11) (b12 : A12) (b13 : A13) (b14 : A14) (b15 : A15) (b16 : A16), I b1 b2 b3 b4 b5 b6 b7 b8 b9 b10 b11 b12 b13 b14 b15 b16 → μ b1 b2 b3 b4 b5 b6 b7 b8 b9 b10 b11 b12 b13 b14 b15 b16 < μ a1 a2 a3 a4 a5 a6 a7 a8 a9 a10 a11 a12 a13 a14 a15 a16 → W n b1 b2 b3 b4 b5 b6 b7 b8 b9 b10 b11 b12 b13 b14 b15 b16) → W (n + 1) a1 a2 a3 a4 a5 a6 a7 a8 a9 a10 a11 a12 a13 a14 a15 a16) (a1 : A1) (a2 : A2) (a3 : A3) (a4 : A4) (a5 : A5) (a6 : A6) (a7 : A7) (a8 : A8) (a9 : A9) (a10 : A10) (a11 : A11) (a12 : A12) (a13 : A13) (a14 : A14) (a15 : A15) (a16 : A16) (h : I a1 a2 a3 a4 a5 a6 a7 a8 a9 a10 a11 a12 a13 a14 a15 a16) : ∃ n, W n a1 a2 a3 a4 a5 a6 a7 a8 a9 a10 a11 a12 a13 a14 a15 a16 :=
  loop_m (σ := A1 × A2 × A3 × A4 × A5 × A6 × A7 × A8 × A9 × A10 × A11 × A12 × A13 × A14 × A15 × A16) (fun n s => W n s.1 s.2.1 s.2.2.1 s.2.2.2.1 s.2.2.2.2.1 s.2.2.2.2.2.1 s.2.2.2.2.2.2.1 s.2.2.2.2.2.2.2.1 s.2.2.2.2.2.2.2.2.1 s.2.2.2.2.2.2.2.2.2.1 s.2.2.2.2.2.2.2.2.2.2.1 s.2.2.2.2.2.2.2.2.2.2.2.1 s.2.2.2.2.2.2.2.2.2.2.2.2.1 s.2.2.2.2.2.2.2.2.2.2.2.2.2.1 s.2.2.2.2.2.2.2.2.2.2.2.2.2.2.1 s.2.2.2.2.2.2.2.2.2.2.2.2.2.2.2) (fun s => I s.1 s.2.1 s.2.2.1 s.2.2.2.1 s.2.2.2.2.1 s.2.2.2.2.2.1 s.2.2.2.2.2.2.1 s.2.2.2.2.2.2.2.1 s.2.2.2.2.2.2.2.2.1 s.2.2.2.2.2.2.2.2.2.1 s.2.2.2.2.2.2.2.2.2.2.1 s.2.2.2.2.2.2.2.2.2.2.2.1 s.2.2.2.2.2.2.2.2.2.2.2.2.1 s.2.2.2.2.2.2.2.2.2.2.2.2.2.1 s.2.2.2.2.2.2.2.2.2.2.2.2.2.2.1 s.2.2.2.2.2.2.2.2.2.2.2.2.2.2.2) (fun s => μ s.1 s.2.1 s.2.2.1 s.2.2.2.1 s.2.2.2.2.1 s.2.2.2.2.2.1 s.2.2.2.2.2.2.1 s.2.2.2.2.2.2.2.1 s.2.2.2.2.2.2.2.2.1 s.2.2.2.2.2.2.2.2.2.1 s.2.2.2.2.2.2.2.2.2.2.1 s.2.2.2.2.2.2.2.2.2.2.2.1 s.2.2.2.2.2.2.2.2.2.2.2.2.1 s.2.2.2.2.2.2.2.2.2.2.2.2.2.1 s.2.2.2.2.2.2.2.2.2.2.2.2.2.2.1 s.2.2.2.2.2.2.2.2.2.2.2.2.2.2.2) (fun n s hI hk => hs n s.1 s.2.1 s.2.2.1 s.2.2.2.1 s.2.2.2.2.1 s.2.2.2.2.2.1 s.2.2.2.2.2.2.1 s.2.2.2.2.2.2.2.1 s.2.2.2.2.2.2.2.2.1 s.2.2.2.2.2.2.2.2.2.1 s.2.2.2.2.2.2.2.2.2.2.1 s.2.2.2.2.2.2.2.2.2.2.2.1 s.2.2.2.2.2.2.2.2.2.2.2.2.1 s.2.2.2.2.2.2.2.2.2.2.2.2.2.1 s.2.2.2.2.2.2.2.2.2.2.2.2.2.2.1 s.2.2.2.2.2.2.2.2.2.2.2.2.2.2.2 hI (fun b1 b2 b3 b4 b5 b6 b7 b8 b9 b10 b11 b12 b13 b14 b15 b16 h9 hm => hk (b1, b2, b3, b4, b5, b6, b7, b8, b9, b10, b11, b12, b13, b14, b15, b16) h9 hm)) (a1, a2, a3, a4, a5, a6, a7, a8, a9, a10, a11, a12, a13, a14, a15, a16) h
theorem pk_least (P : Nat → Prop) (h : ∃ k, P k) : ∃ k, P k ∧ ∀ j, j < k → ¬ P j := by
  obtain ⟨k, hk⟩ := h
  induction k using Nat.strongRecOn with
  | ind k ih =>
    by_cases e : ∃ j, j < k ∧ P j
    · obtain ⟨j, hj, pj⟩ := e
      exact ih j hj pj
    · exact ⟨k, hk, fun j hj pj => e ⟨j, hj, pj⟩⟩
theorem rp1 {ρ A1 : Type} (W : Nat → (ρ → Prop) → A1 → Prop) (ok : A1 → Prop) (μ : A1 → Nat) (val : A1 → ρ)
    (hs : ∀ (d : Nat) (post : ρ → Prop) (a1 : A1), ok a1 → post (val a1) → (∀ (post' : ρ → Prop) (b1 : A1), ok b1 → μ b1 < μ a1 → post' (val b1) → W d post' b1) → W (d + 1) post a1) :
    ∀ (d : Nat) (post : ρ → Prop) (a1 : A1), ok a1 → μ a1 < d → post (val a1) → W d post a1 := by
  intro d
  induction d with
  | zero => intro post a1 _ h; omega
  | succ d ih =>
    intro post a1 ho hm hp
    exact hs d post a1 ho hp (fun post' b1 ho' hm' hp' => ih post' b1 ho' (by omega) hp')
theorem rp2 {ρ A1 A2 : Type} (W : Nat → (ρ → Prop) → A1 → A2 → Prop) (ok : A1 → A2 → Prop) (μ : A1 → A2 → Nat) (val : A1 → A2 → ρ)
    (hs : ∀ (d : Nat) (post : ρ → Prop) (a1 : A1) (a2 : A2), ok a1 a2 → post (val a1 a2) → (∀ (post' : ρ → Prop) (b1 : A1) (b2 : A2), ok b1 b2 → μ b1 b2 < μ a1 a2 → post' (val b1 b2) → W d post' b1 b2) → W (d + 1) post a1 a2) :
    ∀ (d : Nat) (post : ρ → Prop) (a1 : A1) (a2 : A2), ok a1 a2 → μ a1 a2 < d → post (val a1 a2) → W d post a1 a2 := by
  intro d
  induction d with
  | zero => intro post a1 a2 _ h; omega
  | succ d ih =>
    intro post a1 a2 ho hm hp
    exact hs d post a1 a2 ho hp (fun post' b1 b2 ho' hm' hp' => ih post' b1 b2 ho' (by omega) hp')
theorem rp3 {ρ A1 A2 A3 : Type} (W : Nat → (ρ → Prop) → A1 → A2 → A3 → Prop) (ok : A1 → A2 → A3 → Prop) (μ : A1 → A2 → A3 → Nat) (val : A1 → A2 → A3 → ρ)
    (hs : ∀ (d : Nat) (post : ρ → Prop) (a1 : A1) (a2 : A2) (a3 : A3), ok a1 a2 a3 → post (val a1 a2 a3) → (∀ (post' : ρ → Prop) (b1 : A1) (b2 : A2) (b3 : A3), ok b1 b2 b3 → μ b1 b2 b3 < μ a1 a2 a3 → post' (val b1 b2 b3) → W d post' b1 b2 b3) → W (d + 1) post a1 a2 a3) :
    ∀ (d : Nat) (post : ρ → Prop) (a1 : A1) (a2 : A2) (a3 : A3), ok a1 a2 a3 → μ a1 a2 a3 < d → post (val a1 a2 a3) → W d post a1 a2 a3 := by
  intro d
  induction d with
  | zero => intro post a1 a2 a3 _ h; omega
  | succ d ih =>
    intro post a1 a2 a3 ho hm hp
    exact hs d post a1 a2 a3 ho hp (fun post' b1 b2 b3 ho' hm' hp' => ih post' b1 b2 b3 ho' (by omega) hp')
theorem rp4 {ρ A1 A2 A3 A4 : Type} (W : Nat → (ρ → Prop) → A1 → A2 → A3 → A4 → Prop) (ok : A1 → A2 → A3 → A4 → Prop) (μ : A1 → A2 → A3 → A4 → Nat) (val : A1 → A2 → A3 → A4 → ρ)
    (hs : ∀ (d : Nat) (post : ρ → Prop) (a1 : A1) (a2 : A2) (a3 : A3) (a4 : A4), ok a1 a2 a3 a4 → post (val a1 a2 a3 a4) → (∀ (post' : ρ → Prop) (b1 : A1) (b2 : A2) (b3 : A3) (b4 : A4), ok b1 b2 b3 b4 → μ b1 b2 b3 b4 < μ a1 a2 a3 a4 → post' (val b1 b2 b3 b4) → W d post' b1 b2 b3 b4) → W (d + 1) post a1 a2 a3 a4) :
    ∀ (d : Nat) (post : ρ → Prop) (a1 : A1) (a2 : A2) (a3 : A3) (a4 : A4), ok a1 a2 a3 a4 → μ a1 a2 a3 a4 < d → post (val a1 a2 a3 a4) → W d post a1 a2 a3 a4 := by
  intro d
  induction d with
  | zero => intro post a1 a2 a3 a4 _ h; omega
  | succ d ih =>
    intro post a1 a2 a3 a4 ho hm hp
    exact hs d post a1 a2 a3 a4 ho hp (fun post' b1 b2 b3 b4 ho' hm' hp' => ih post' b1 b2 b3 b4 ho' (by omega) hp')
theorem rp5 {ρ A1 A2 A3 A4 A5 : Type} (W : Nat → (ρ → Prop) → A1 → A2 → A3 → A4 → A5 → Prop) (ok : A1 → A2 → A3 → A4 → A5 → Prop) (μ : A1 → A2 → A3 → A4 → A5 → Nat) (val : A1 → A2 → A3 → A4 → A5 → ρ)
    (hs : ∀ (d : Nat) (post : ρ → Prop) (a1 : A1) (a2 : A2) (a3 : A3) (a4 : A4) (a5 : A5), ok a1 a2 a3 a4 a5 → post (val a1 a2 a3 a4 a5) → (∀ (post' : ρ → Prop) (b1 : A1) (b2 : A2) (b3 : A3) (b4 : A4) (b5 : A5), ok b1 b2 b3 b4 b5 → μ b1 b2 b3 b4 b5 < μ a1 a2 a3 a4 a5 → post' (val b1 b2 b3 b4 b5) → W d post' b1 b2 b3 b4 b5) → W (d + 1) post a1 a2 a3 a4 a5) :
    ∀ (d : Nat) (post : ρ → Prop) (a1 : A1) (a2 : A2) (a3 : A3) (a4 : A4) (a5 : A5), ok a1 a2 a3 a4 a5 → μ a1 a2 a3 a4 a5 < d → post (val a1 a2 a3 a4 a5) → W d post a1 a2 a3 a4 a5 := by
  intro d
  induction d with
  | zero => intro post a1 a2 a3 a4 a5 _ h; omega
  | succ d ih =>
    intro post a1 a2 a3 a4 a5 ho hm hp
    exact hs d post a1 a2 a3 a4 a5 ho hp (fun post' b1 b2 b3 b4 b5 ho' hm' hp' => ih post' b1 b2 b3 b4 b5 ho' (by omega) hp')
theorem rp6 {ρ A1 A2 A3 A4 A5 A6 : Type} (W : Nat → (ρ → Prop) → A1 → A2 → A3 → A4 → A5 → A6 → Prop) (ok : A1 → A2 → A3 → A4 → A5 → A6 → Prop) (μ : A1 → A2 → A3 → A4 → A5 → A6 → Nat) (val : A1 → A2 → A3 → A4 → A5 → A6 → ρ)
    (hs : ∀ (d : Nat) (post : ρ → Prop) (a1 : A1) (a2 : A2) (a3 : A3) (a4 : A4) (a5 : A5) (a6 : A6), ok a1 a2 a3 a4 a5 a6 → post (val a1 a2 a3 a4 a5 a6) → (∀ (post' : ρ → Prop) (b1 : A1) (b2 : A2) (b3 : A3) (b4 : A4) (b5 : A5) (b6 : A6), ok b1 b2 b3 b4 b5 b6 → μ b1 b2 b3 b4 b5 b6 < μ a1 a2 a3 a4 a5 a6 → post' (val b1 b2 b3 b4 b5 b6) → W d post' b1 b2 b3 b4 b5 b6) → W (d + 1) post a1 a2 a3 a4 a5 a6) :
    ∀ (d : Nat) (post : ρ → Prop) (a1 : A1) (a2 : A2) (a3 : A3) (a4 : A4) (a5 : A5) (a6 : A6), ok a1 a2 a3 a4 a5 a6 → μ a1 a2 a3 a4 a5 a6 < d → post (val a1 a2 a3 a4 a5 a6) → W d post a1 a2 a3 a4 a5 a6 := by
  intro d
  induction d with
  | zero => intro post a1 a2 a3 a4 a5 a6 _ h; omega
  | succ d ih =>
    intro post a1 a2 a3 a4 a5 a6 ho hm hp
    exact hs d post a1 a2 a3 a4 a5 a6 ho hp (fun post' b1 b2 b3 b4 b5 b6 ho' hm' hp' => ih post' b1 b2 b3 b4 b5 b6 ho' (by omega) hp')
theorem rec_p {σ ρ : Type} (W : Nat → (ρ → Prop) → σ → Prop) (ok : σ → Prop) (μ : σ → Nat) (val : σ → ρ)
    (hs : ∀ d s post, ok s → post (val s) → (∀ s' post', ok s' → μ s' < μ s → post' (val s') → W d post' s') → W (d + 1) post s) :
    ∀ d s post, ok s → μ s < d → post (val s) → W d post s := by
  intro d
  induction d with
  | zero => intro s post _ h; omega
  | succ d ih =>
    intro s post ho hm hp
    exact hs d s post ho hp (fun s' post' ho' hm' hp' => ih s' post' ho' (by omega) hp')
theorem rec_q {σ ρ : Type} (W : Nat → (ρ → Prop) → σ → Prop) (ok : σ → Prop) (μ : σ → Nat) (Q : σ → ρ → Prop)
    (hs : ∀ d s post, ok s → (∀ r, Q s r → post r) → (∀ s' post', ok s' → μ s' < μ s → (∀ r, Q s' r → post' r) → W d post' s') → W (d + 1) post s) :
    ∀ d s post, ok s → μ s < d → (∀ r, Q s r → post r) → W d post s := by
  intro d
  induction d with
  | zero => intro s post _ h; omega
  | succ d ih =>
    intro s post ho hm hp
    exact hs d s post ho hp (fun s' post' ho' hm' hp' => ih s' post' ho' (by omega) hp')
def bx_sum (f : Nat → Int32) : Nat → Int32
  | 0 => 0
  | n + 1 => bx_sum f n + f n
theorem ek_u {A : Prop} {B : Nat → Prop} {k N : Nat} (hk : k < N) (h : B k) : (some k = none → A) ∧ (∀ y : Nat, some k = some y → (y < N ∧ B y)) :=
  ⟨fun z => absurd z (Option.some_ne_none k), fun _ e => (by cases e; exact ⟨hk, h⟩)⟩
theorem ek_nu {A : Prop} {B : Nat → Prop} (h : A) : ((none : Option Nat) = none → A) ∧ (∀ y : Nat, (none : Option Nat) = some y → B y) :=
  ⟨fun _ => h, fun _ e => (by cases e)⟩
theorem ek_if {c d A B : Prop} (e : c ↔ d) (f : d → A) (g : ¬ d → B) : (c → A) ∧ (¬ c → B) :=
  ⟨fun z => f (e.mp z), fun z => g (fun y => z (e.mpr y))⟩
theorem ek_v {α : Sort _} {P : α → Prop} {a b : α} (e : a = b) (h : P b) : P a := e ▸ h
theorem co_some {x : Option Nat} {A : Prop} {B : Nat → Prop} (i : Nat) (h : B i) (hx : x = some i := by rfl) : (x = none → A) ∧ (∀ y : Nat, x = some y → B y) := by
  subst hx
  exact ⟨fun e => (nomatch e), fun y e => Option.some.inj e ▸ h⟩
theorem co_none {x : Option Nat} {A : Prop} {B : Nat → Prop} (h : A) (hx : x = none := by rfl) : (x = none → A) ∧ (∀ y : Nat, x = some y → B y) := by
  subst hx
  exact ⟨fun _ => h, fun y e => (nomatch e)⟩
theorem co_any {x : Option Nat} {A : Prop} {B : Nat → Prop} (hn : x = none → A) (hs : ∀ i : Nat, x = some i → B i) : (x = none → A) ∧ (∀ y : Nat, x = some y → B y) := ⟨hn, hs⟩
theorem co_2 {P : Nat → Prop} (h0 : P 0) (h1 : P 1) {i : Nat} (hi : i < 2) : P i :=
  match i, hi with
  | 0, _ => h0
  | 1, _ => h1
theorem co_3 {P : Nat → Prop} (h0 : P 0) (h1 : P 1) (h2 : P 2) {i : Nat} (hi : i < 3) : P i :=
  match i, hi with
  | 0, _ => h0
  | 1, _ => h1
  | 2, _ => h2
theorem co_4 {P : Nat → Prop} (h0 : P 0) (h1 : P 1) (h2 : P 2) (h3 : P 3) {i : Nat} (hi : i < 4) : P i :=
  match i, hi with
  | 0, _ => h0
  | 1, _ => h1
  | 2, _ => h2
  | 3, _ => h3
theorem co_dec {N : Nat} {P : Nat → Prop} [DecidablePred P] (h : (List.range N).all (fun i => decide (P i)) = true) {i : Nat} (hi : i < N) : P i := by
  have := List.all_eq_true.mp h i (List.mem_range.mpr hi)
  exact of_decide_eq_true this
theorem co_tab {α : Type} {l : List α} {d : α} {P : α → Prop} (h : ∀ a, a ∈ l → P a) {i : Nat} (hi : i < l.length) : P (l.getD i d) := by
  rw [List.getD_eq_getElem?_getD, List.getElem?_eq_getElem hi]
  exact h _ (List.getElem_mem hi)
theorem pk_mu {x : Int32} {L : Nat} (h0 : ¬ x < 0) (h : ¬ nI L ≤ x) (hL : L < 2 ^ 31) : ∃ j : Nat, j < L ∧ x = nI j ∧ x + 1 = nI (j + 1) ∧ x.toNatClampNeg = j ∧ L - (x + 1).toNatClampNeg < L - x.toNatClampNeg := by
  obtain ⟨j, hj, rfl⟩ := nI_of h0
  have hl : j < L := Nat.not_le.mp fun q => h (nI_le q hj)
  refine ⟨j, hl, rfl, nI_1 j, nI_clamp hj, ?_⟩
  rw [nI_1, nI_clamp (by omega), nI_clamp hj]
  omega
theorem op_s {α : Type} {r : Option α} {A : Prop} {B : α → Prop} {y : α} (h : r = some y) (b : B y) : (r = none → A) ∧ ∀ z, r = some z → B z :=
  ⟨fun e => (by rw [h] at e; cases e), fun z e => (by rw [h] at e; cases e; exact b)⟩
def l_holds {α : Type} (a : Nat → Option Nat) (LP : List Nat) (p : Nat → α) (c : Nat) (b : Nat → α) : Prop :=
  ∀ j, j < c → ∃ y, a j = some y ∧ y ∈ LP ∧ p y = b j
theorem l_holds_0 {α : Type} {a : Nat → Option Nat} {LP : List Nat} {p b : Nat → α} : l_holds a LP p 0 b := fun j h => absurd h (Nat.not_lt_zero j)
theorem l_in_new (LP : List Nat) (q : Nat) : q ∈ LP ++ [q] := List.mem_append.mpr (Or.inr (List.mem_singleton.mpr rfl))
def l_sum (b : Nat → Int32) : Nat → Int32
  | 0 => 0
  | k + 1 => l_sum b k + b k
theorem sb_shr0 (x : Int32) : x >>> ((0 : Int32) &&& 31) = x := by
  rw [show ((0 : Int32) &&& 31) = 0 by decide]
  simp
theorem sb_shl0 (x : Int32) : x <<< ((0 : Int32) &&& 31) = x := by
  rw [show ((0 : Int32) &&& 31) = 0 by decide]
  simp
theorem sb_cl0 : (0 : Int32).toNatClampNeg = 0 := by decide
theorem sb_m1 {p : Nat} (h : 0 < p) : nI p + (-1) = nI (p - 1) := by
  obtain ⟨q, rfl⟩ : ∃ q, p = q + 1 := ⟨p - 1, by omega⟩
  exact pk_m1 q
def sb_b (c : Nat) : Int32 := (nI c).toInt8.toInt32
theorem sb_byte : ∀ c, c < 256 → sb_b c &&& 255 = nI c ∧ ((nI c).toUInt32 % 65536).toInt32 = nI c ∧ nI c ≤ 255 := by decide +kernel
def sb_Fit (a : Nat → Int32) : Prop := ∀ j, fits .byte (.int (a j)) = true
def sb_Lat (t : Nat → Nat) (n : Nat) (a : Nat → Int32) : Prop := ∀ j, j < n → t j < 256 ∧ a j = sb_b (t j)
theorem sb_fitB (c : Nat) : fits .byte (.int (sb_b c)) = true := pk_fb _
theorem sb_fit0 : sb_Fit (fun _ => 0) := fun _ => by
  show fits .byte (.int 0) = true
  decide
theorem sb_fitU {a : Nat → Int32} {k : Nat} {x : Int32} (h : sb_Fit a) (hx : fits .byte (.int x) = true) : sb_Fit (upd a k x) := by
  intro j
  by_cases e : j = k
  · subst e
    rw [pk_us]
    exact hx
  · rw [pk_un e]
    exact h j
def sb_cat (t : Nat → Nat) (n : Nat) (s : Nat → Nat) : Nat → Nat := fun j => if j < n then t j else s (j - n)
theorem sb_cat_lo {t s : Nat → Nat} {n j : Nat} (h : j < n) : sb_cat t n s j = t j := if_pos h
theorem sb_cat_hi {t s : Nat → Nat} {n j : Nat} : sb_cat t n s (n + j) = s j := by
  show (if n + j < n then t (n + j) else s (n + j - n)) = s j
  rw [if_neg (by omega), Nat.add_sub_cancel_left]
theorem sb_latPut {t s : Nat → Nat} {n w : Nat} {a a' : Nat → Int32} (h : sb_Lat t n a) (hk : ∀ j, j < n → a' j = a j) (hs : ∀ i, i < w → s i < 256 ∧ a' (n + i) = sb_b (s i)) : sb_Lat (sb_cat t n s) (n + w) a' := by
  intro j hj
  by_cases e : j < n
  · rw [sb_cat_lo e, hk j e]
    exact h j e
  · obtain ⟨i, rfl⟩ : ∃ i, j = n + i := ⟨j - n, by omega⟩
    rw [sb_cat_hi]
    exact hs i (by omega)
theorem sb_latKeep {t : Nat → Nat} {n : Nat} {a a' : Nat → Int32} (h : sb_Lat t n a) (hk : ∀ j, j < n → a' j = a j) : sb_Lat t n a' := fun j hj => by
  rw [hk j hj]
  exact h j hj
def sb_cap (q m : Nat) : Nat := if q ≤ m then m else if 2 * m + 2 < q then q else 2 * m + 2
def sb_Room (q m mc ms : Nat) : Prop := q ≤ m ∨ (1 ≤ mc ∧ sb_cap q m ≤ ms ∧ sb_cap q m ≤ 65536)
theorem sb_cap_ge (q m : Nat) : q ≤ sb_cap q m := by
  unfold sb_cap
  split
  · omega
  · split <;> omega
theorem sb_cap_gem (q m : Nat) : m ≤ sb_cap q m := by
  unfold sb_cap
  split
  · omega
  · split <;> omega
theorem sb_cap_le {q m mc ms : Nat} (hm : m ≤ 65536) (hr : sb_Room q m mc ms) : sb_cap q m ≤ 65536 := by
  rcases hr with h | h
  · rw [sb_cap, if_pos h]
    exact hm
  · exact h.2.2
theorem sb_at {P : Int32 → Prop} {x y : Int32} (e : x = y) (h : P y) : P x := e ▸ h
def sb_dg (w : Nat) : Nat := if w < 10 then 1 else if w < 100 then 2 else if w < 1000 then 3 else if w < 10000 then 4 else if w < 100000 then 5 else if w < 1000000 then 6 else if w < 10000000 then 7 else if w < 100000000 then 8 else if w < 1000000000 then 9 else 10
def sb_dec (v : Nat) : Nat → Nat := fun i => 48 + v / 10 ^ (sb_dg v - 1 - i) % 10
theorem sb_dg_in (w : Nat) : 1 ≤ sb_dg w ∧ sb_dg w ≤ 10 := by
  unfold sb_dg
  constructor <;> (repeat' split) <;> omega
theorem sb_dg100 {w : Nat} (h : 100 ≤ w) (hw : w < 2 ^ 31) : sb_dg w = sb_dg (w / 100) + 2 := by
  rw [sb_dg, sb_dg, if_neg (show ¬ w < 10 by omega), if_neg (show ¬ w < 100 by omega)]
  by_cases h3 : w < 1000
  · rw [if_pos h3, if_pos (show w / 100 < 10 by omega)]
  rw [if_neg h3, if_neg (show ¬ w / 100 < 10 by omega)]
  by_cases h4 : w < 10000
  · rw [if_pos h4, if_pos (show w / 100 < 100 by omega)]
  rw [if_neg h4, if_neg (show ¬ w / 100 < 100 by omega)]
  by_cases h5 : w < 100000
  · rw [if_pos h5, if_pos (show w / 100 < 1000 by omega)]
  rw [if_neg h5, if_neg (show ¬ w / 100 < 1000 by omega)]
  by_cases h6 : w < 1000000
  · rw [if_pos h6, if_pos (show w / 100 < 10000 by omega)]
  rw [if_neg h6, if_neg (show ¬ w / 100 < 10000 by omega)]
  by_cases h7 : w < 10000000
  · rw [if_pos h7, if_pos (show w / 100 < 100000 by omega)]
  rw [if_neg h7, if_neg (show ¬ w / 100 < 100000 by omega)]
  by_cases h8 : w < 100000000
  · rw [if_pos h8, if_pos (show w / 100 < 1000000 by omega)]
  rw [if_neg h8, if_neg (show ¬ w / 100 < 1000000 by omega)]
  by_cases h9 : w < 1000000000
  · rw [if_pos h9, if_pos (show w / 100 < 10000000 by omega)]
  rw [if_neg h9, if_neg (show ¬ w / 100 < 10000000 by omega)]
  rw [if_pos (show w / 100 < 100000000 by omega)]
theorem sb_negT {w : Nat} (h : w < 2 ^ 31) : (-nI w).toInt = -(w : Int) := by
  rw [Int32.toInt_neg, nI_toInt h]
  exact Int.bmod_eq_of_le (by omega) (by omega)
theorem sb_nle {a b : Nat} (ha : a < 2 ^ 31) (hb : b < 2 ^ 31) : -nI a ≤ -nI b ↔ b ≤ a := by
  rw [Int32.le_iff_toInt_le, sb_negT ha, sb_negT hb]
  omega
theorem sb_nlt {a b : Nat} (ha : a < 2 ^ 31) (hb : b < 2 ^ 31) : -nI a < -nI b ↔ b < a := by
  rw [Int32.lt_iff_toInt_lt, sb_negT ha, sb_negT hb]
  omega
theorem sb_cmp {A B : Prop} {x : Int32} (v c : Nat) (f : c ≤ v → A) (g : v < c → B) (hv : v < 2 ^ 31) (hx : x = -nI c := by rfl) (hc : c < 2 ^ 31 := by omega) : (-nI v ≤ x → A) ∧ (¬ -nI v ≤ x → B) := by
  subst hx
  rw [sb_nle hv hc]
  exact ⟨f, fun z => g (by omega)⟩
theorem sb_ndiv {w : Nat} (hw : w < 2 ^ 31) : (-nI w) / 100 = -nI (w / 100) := by
  apply Int32.toInt_inj.mp
  have h100 : (100 : Int32).toInt = 100 := by decide
  rw [Int32.toInt_div, sb_negT hw, h100, sb_negT (by omega), Int.neg_tdiv, Int.tdiv_eq_ediv_of_nonneg (by omega), Int.bmod_eq_of_le (by omega) (by omega)]
  omega
theorem sb_nrem {w : Nat} (hw : w < 2 ^ 31) : (-nI (w / 100)) * 100 - (-nI w) = nI (w % 100) := by
  have h := pk_rem (a := w) (d := 100) hw (by decide) (by decide)
  rw [pk_div hw (by decide) (by decide)] at h
  rw [← h]
  show (-nI (w / 100)) * nI 100 - (-nI w) = nI w - nI (w / 100) * nI 100
  rw [Int32.neg_mul, Int32.sub_neg, Int32.add_comm, ← Int32.sub_eq_add_neg]
end
section
section NUM
/-! small numbers and masks -/
theorem nu_le0 {a : Nat} (h : a < 2 ^ 31) : nI a ≤ 0 ↔ a = 0 := by
  rw [← nI_0, nI_leI h (by omega)]; omega
theorem nu_eq0 {a : Nat} (h : a < 2 ^ 31) : nI a = 0 ↔ a = 0 := by
  rw [← nI_0, nI_eq h (by omega)]
theorem nu_m1lt : (-1 : Int32) < 0 := by decide
theorem nu_m1le : ¬ (0 : Int32) ≤ -1 := by decide
theorem nu_ne1 {a : Nat} (h : a < 2 ^ 31) : ¬ nI a = -1 := by
  intro e
  have := nI_pos (n := a) h
  rw [e] at this
  exact this nu_m1lt
theorem nu_s1 {n : Nat} (h : 0 < n) : nI n - 1 = nI (n - 1) := by
  obtain ⟨m, rfl⟩ : ∃ m, n = m + 1 := ⟨n - 1, by omega⟩
  exact nI_pred m
theorem nu_m1 {n : Nat} (h : 0 < n) : nI n + (-1) = nI (n - 1) := by
  obtain ⟨m, rfl⟩ : ∃ m, n = m + 1 := ⟨n - 1, by omega⟩
  exact pk_m1 m
theorem nu_2m (a : Nat) : 2 * nI a = nI (2 * a) := pk_mul 2 a
theorem nu_m6 (a : Nat) : nI a * 6 = nI (a * 6) := pk_mul a 6
theorem nu_m24 (a : Nat) : nI a * 24 = nI (a * 24) := pk_mul a 24
theorem nu_m16 (a : Nat) : nI a * 16 = nI (a * 16) := pk_mul a 16
theorem nu_m4 (a : Nat) : nI a * 4 = nI (a * 4) := pk_mul a 4
theorem nu_nar0 : vp_nar .boolean 0 = 0 := by decide
theorem nu_nar1 : vp_nar .boolean 1 = 1 := by decide
theorem nu_nb {x : Int32} (h : x = 0 ∨ x = 1) : narrow .boolean (.int x) = .int x := by
  rcases h with h | h <;> rw [h] <;> rfl
theorem nu_nn {x : Int32} (h : x = 0 ∨ x = 1) : vp_nar .boolean x = x := by
  rcases h with h | h <;> rw [h] <;> decide
theorem nu_10 : ¬ (1 : Int32) = 0 := by decide
theorem nu_lt_t {a b : Nat} (h : a < b) (hb : b < 2 ^ 31) : nI a < nI b := nI_lt h hb
/-- x is a small number or not at all in 0 .. n-1 -/
theorem nu_cs (x : Int32) (n : Nat) (hn : n < 2 ^ 31) : (∃ j, j < n ∧ x = nI j) ∨ ((x < 0 ∨ nI n ≤ x)) := by
  rcases pk_ix x hn with h | h | h
  · exact Or.inr (Or.inl h)
  · exact Or.inr (Or.inr h)
  · exact Or.inl h
/-- the bit of weight 2 ^ v -/
def bm_t (m v : Nat) : Bool := decide (m / 2 ^ v % 2 = 1)
def bm_n (m v : Nat) : Nat := if bm_t m v = true then 1 else 0
/-- how many bits below v -/
def bm_c (m : Nat) : Nat → Nat
  | 0 => 0
  | v + 1 => bm_c m v + bm_n m v
/-- the mask of a set of numbers below v -/
def bm_m (b : Nat → Bool) : Nat → Nat
  | 0 => 0
  | v + 1 => bm_m b v + (if b v = true then 2 ^ v else 0)
theorem bm_c_le (m : Nat) : ∀ v, bm_c m v ≤ v := by
  intro v
  induction v with
  | zero => exact Nat.le_refl _
  | succ v ih => rw [bm_c]; unfold bm_n; split <;> omega
theorem bm_c_mono (m : Nat) (v : Nat) : ∀ d, bm_c m v ≤ bm_c m (v + d) := by
  intro d
  induction d with
  | zero => exact Nat.le_refl _
  | succ d ih => rw [← Nat.add_assoc, bm_c]; omega
theorem bm_m_lt (b : Nat → Bool) : ∀ v, bm_m b v < 2 ^ v := by
  intro v
  induction v with
  | zero => exact Nat.lt_succ_self 0
  | succ v ih => rw [bm_m, Nat.pow_succ]; split <;> omega
theorem bm_m_64 (b : Nat → Bool) : bm_m b 6 < 64 := bm_m_lt b 6
theorem bm_m_ext {b c : Nat → Bool} : ∀ v, (∀ j, j < v → b j = c j) → bm_m b v = bm_m c v := by
  intro v
  induction v with
  | zero => intro _; rfl
  | succ v ih => intro h; rw [bm_m, bm_m, ih (fun j hj => h j (by omega)), h v (by omega)]
theorem bm_or : ∀ v, v < 6 → ∀ m, m < 64 → m < 2 ^ v → nI m ||| ((1 : Int32) <<< (nI v &&& 31)) = nI (m + 2 ^ v) := by decide +kernel
theorem bm_sh : ∀ v, v < 6 → (1 : Int32) <<< (nI v &&& 31) = nI (2 ^ v) := by decide +kernel
theorem bm_sr : ∀ v, v < 6 → ∀ m, m < 64 → (nI m >>> (nI v &&& 31)) &&& 1 = nI (bm_n m v) := by decide +kernel
theorem bm_sub : ∀ c, c < 64 → ∀ b, b < 64 → (nI c &&& (nI b ^^^ (-1)) = 0 ↔ nI c &&& nI b = nI c) := by decide +kernel
theorem bm_sub2 : ∀ c, c < 64 → ∀ b, b < 64 → nI c &&& nI b = nI c → ∀ v, v < 6 → bm_t c v = true → bm_t b v = true := by decide +kernel
theorem bm_n1 {m v : Nat} : nI (bm_n m v) = 1 ↔ bm_t m v = true := by
  unfold bm_n
  split
  · next h => exact ⟨fun _ => h, fun _ => rfl⟩
  · next h => exact ⟨fun z => absurd z (by decide), fun z => absurd z h⟩
theorem bm_b1 {m v : Nat} (hv : v < 6) (hm : m < 64) : (nI m >>> (nI v &&& 31)) &&& 1 = 1 ↔ bm_t m v = true := by
  rw [bm_sr v hv m hm]; exact bm_n1
theorem bm_m_tb (b : Nat → Bool) : ∀ v w, w < v → bm_t (bm_m b v) w = b w := by
  intro v
  induction v with
  | zero => intro w h; omega
  | succ v ih =>
    intro w h
    have l := bm_m_lt b v
    by_cases e : w = v
    · subst e
      have : bm_m b (w + 1) / 2 ^ w = if b w = true then 1 else 0 := by
        rw [bm_m]
        split
        · rw [Nat.add_div_right _ (Nat.pos_of_ne_zero (by have := Nat.two_pow_pos w; omega)), Nat.div_eq_of_lt l]
        · rw [Nat.add_zero, Nat.div_eq_of_lt l]
      unfold bm_t
      rw [this]
      cases b w <;> rfl
    · have hw : w < v := by omega
      rw [← ih w hw]
      unfold bm_t
      rw [bm_m]
      split
      · have h2 : 2 ^ v = 2 ^ w * (2 * 2 ^ (v - w - 1)) := by
          rw [← Nat.pow_succ', ← Nat.pow_add]; congr 1; omega
        rw [h2, Nat.add_mul_div_left _ _ (Nat.two_pow_pos w), Nat.add_mul_mod_self_left]
      · rfl
theorem bm_c_cnt (b : Nat → Bool) : ∀ v, v ≤ 6 → bm_c (bm_m b 6) v = bm_c (bm_m b 6) v := fun _ _ => rfl
theorem bm_m_0 (b : Nat → Bool) : ∀ v, bm_m b v = 0 ↔ ∀ j, j < v → b j = false := by
  intro v
  induction v with
  | zero => exact ⟨fun _ j hj => absurd hj (Nat.not_lt_zero j), fun _ => rfl⟩
  | succ v ih =>
    rw [bm_m]
    have p := Nat.two_pow_pos v
    constructor
    · intro h j hj
      by_cases e : j = v
      · rw [e]
        cases hb : b v with
        | false => rfl
        | true => rw [hb, if_pos rfl] at h; omega
      · exact ih.mp (by omega) j (by omega)
    · intro h
      rw [ih.mpr (fun j hj => h j (by omega)), h v (by omega)]
      rfl
end NUM
end
section
section ARR
/-! arrays filled from a place on -/
def fw (a : Nat → Int32) (lo n : Nat) (f : Nat → Int32) : Nat → Int32 := fun j => if lo ≤ j ∧ j < lo + n then f (j - lo) else a j
theorem fw_0 (a : Nat → Int32) (lo : Nat) (f : Nat → Int32) : fw a lo 0 f = a := by
  funext j; unfold fw; exact if_neg (by omega)
theorem fw_s (a : Nat → Int32) (lo n : Nat) (f : Nat → Int32) {x : Int32} (hx : x = f n) : upd (fw a lo n f) (lo + n) x = fw a lo (n + 1) f := by
  funext j
  by_cases h : j = lo + n
  · rw [h, pk_us]; unfold fw; rw [if_pos (by omega), hx]; congr 1; omega
  · rw [pk_un h]; unfold fw
    by_cases h2 : lo ≤ j ∧ j < lo + n
    · rw [if_pos h2, if_pos (by omega)]
    · rw [if_neg h2, if_neg (by omega)]
theorem fw_at {a : Nat → Int32} {lo n : Nat} {f : Nat → Int32} {i : Nat} (h : i < n) : fw a lo n f (lo + i) = f i := by
  unfold fw; rw [if_pos (by omega)]; congr 1; omega
theorem fw_out {a : Nat → Int32} {lo n : Nat} {f : Nat → Int32} {j : Nat} (h : j < lo ∨ lo + n ≤ j) : fw a lo n f j = a j := by
  unfold fw; exact if_neg (by omega)
theorem fw_cat (a : Nat → Int32) (m n : Nat) (x : Int32) : fw (fw a 0 m (fun _ => x)) m n (fun _ => x) = fw a 0 (m + n) (fun _ => x) := by
  funext j; unfold fw
  by_cases h : m ≤ j ∧ j < m + n
  · rw [if_pos h, if_pos (by omega)]
  · rw [if_neg h]
    by_cases h2 : 0 ≤ j ∧ j < 0 + m
    · rw [if_pos h2, if_pos (by omega)]
    · rw [if_neg h2, if_neg (by omega)]
theorem fw_c0 {a : Nat → Int32} {m : Nat} {x : Int32} (h : ∀ j, m ≤ j → a j = x) : fw a 0 m (fun _ => x) = fun _ => x := by
  funext j; unfold fw
  split
  · rfl
  · exact h j (by omega)
theorem up_up (a : Nat → Int32) (k : Nat) (x y : Int32) : upd (upd a k x) k y = upd a k y := by
  funext j; by_cases h : j = k
  · rw [h, pk_us, pk_us]
  · rw [pk_un h, pk_un h, pk_un h]
theorem up_c (a : Nat → Int32) {k l : Nat} (h : k ≠ l) (x y : Int32) : upd (upd a k x) l y = upd (upd a l y) k x := by
  funext j; by_cases h1 : j = l
  · have h2 : j ≠ k := fun z => h (z.symm.trans h1)
    rw [h1, pk_us, pk_un (fun z => h z.symm), pk_us]
  · rw [pk_un h1]
    by_cases h2 : j = k
    · rw [h2, pk_us, pk_us]
    · rw [pk_un h2, pk_un h2, pk_un h1]
theorem up_id (a : Nat → Int32) {k : Nat} {x : Int32} (h : a k = x) : upd a k x = a := by
  funext j; by_cases h1 : j = k
  · rw [h1, pk_us, h]
  · rw [pk_un h1]
theorem nu_hi {v : Int32} {N : Nat} (hN : N < 2 ^ 31) (h : ¬ v < 0) (h2 : nI N ≤ v) : nI N - 1 < v := by
  obtain ⟨j, hj, rfl⟩ := nI_of h
  rw [nI_leI hN hj] at h2
  by_cases z : N = 0
  · rw [z, nI_0]
    exact Int32.lt_of_lt_of_le (by decide : (0 : Int32) - 1 < 0) (nI_pos' hj)
  · rw [nu_s1 (by omega)]; exact nI_lt (by omega) hj
theorem nu_lo {j N : Nat} (hN : N < 2 ^ 31) (h : j < N) : ¬ nI N - 1 < nI j := by
  rw [nu_s1 (by omega)]; exact nI_nlt (by omega) (by omega)
end ARR
end
section
section TYM
/-! the types' mathematics: equality and duality by stages, classes, counts -/
def ty_cnt (p : Nat → Bool) : Nat → Nat
  | 0 => 0
  | n + 1 => ty_cnt p n + (if p n = true then 1 else 0)
theorem ty_cnt_le (p : Nat → Bool) : ∀ n, ty_cnt p n ≤ n := by
  intro n
  induction n with
  | zero => exact Nat.le_refl _
  | succ n ih => rw [ty_cnt]; split <;> omega
theorem ty_cnt_mono {p q : Nat → Bool} : ∀ n, (∀ i, i < n → p i = true → q i = true) → ty_cnt p n ≤ ty_cnt q n := by
  intro n
  induction n with
  | zero => intro _; exact Nat.le_refl _
  | succ n ih =>
    intro h
    have h1 := ih (fun i hi => h i (by omega))
    have h2 := h n (by omega)
    rw [ty_cnt, ty_cnt]
    by_cases hp : p n = true
    · rw [if_pos hp, if_pos (h2 hp)]; omega
    · rw [if_neg hp]; split <;> omega
theorem ty_cnt_lt {p q : Nat → Bool} : ∀ n, (∀ i, i < n → p i = true → q i = true) → ∀ m, m < n → p m = false → q m = true → ty_cnt p n < ty_cnt q n := by
  intro n
  induction n with
  | zero => intro _ m hm; omega
  | succ n ih =>
    intro h m hm hp hq
    have h2 := h n (by omega)
    rw [ty_cnt, ty_cnt]
    by_cases e : m = n
    · rw [e] at hp hq
      have h1 := ty_cnt_mono n (fun i hi => h i (by omega))
      rw [hp, hq]
      simp only [Bool.false_eq_true, if_false, if_true]
      omega
    · have h1 := ih (fun i hi => h i (by omega)) m (by omega) hp hq
      by_cases hpn : p n = true
      · rw [if_pos hpn, if_pos (h2 hpn)]; omega
      · rw [if_neg hpn]; split <;> omega
theorem ty_cnt_all {p : Nat → Bool} : ∀ n, (∀ i, i < n → p i = true) → ty_cnt p n = n := by
  intro n
  induction n with
  | zero => intro _; rfl
  | succ n ih =>
    intro h
    rw [ty_cnt, ih (fun i hi => h i (by omega)), if_pos (h n (by omega))]
theorem ty_cnt_pos {p : Nat → Bool} {n m : Nat} (hm : m < n) (h : p m = true) : 0 < ty_cnt p n := by
  have h1 := ty_cnt_lt (p := fun _ => false) (q := p) n (fun _ _ h => by cases h) m hm rfl h
  omega

def ty_op (k : Nat) : Nat := if k = 0 then 0 else if k % 2 = 1 then k + 1 else k - 1
/-- equality of types to depth k -/
def ty_e (K A B : Nat → Nat) : Nat → Nat → Nat → Prop
  | 0, _, _ => True
  | k + 1, t, u => K t = K u ∧ (K t = 0 ∨ ty_e K A B k (A t) (A u)) ∧ (K t < 3 ∨ ty_e K A B k (B t) (B u))
def ty_E (K A B : Nat → Nat) (t u : Nat) : Prop := ∀ k, ty_e K A B k t u
def ty_d (K A B : Nat → Nat) : Nat → Nat → Nat → Prop
  | 0, _, _ => True
  | k + 1, t, u => K u = ty_op (K t) ∧ (K t = 0 ∨ ty_d K A B k (A t) (A u)) ∧ ((K t ≠ 3 ∧ K t ≠ 4) ∨ ty_E K A B (B t) (B u)) ∧ (K t < 5 ∨ ty_d K A B k (B t) (B u))
def ty_D (K A B : Nat → Nat) (t u : Nat) : Prop := ∀ k, ty_d K A B k t u
/-- likeness of nodes of a graph to depth k -/
def ty_s (g a b : Nat → Nat) : Nat → Nat → Nat → Prop
  | 0, _, _ => True
  | k + 1, i, j => g i = g j ∧ ty_s g a b k (a i) (a j) ∧ ty_s g a b k (b i) (b j)
variable {g a b K A B : Nat → Nat}
theorem ty_s_r : ∀ k i, ty_s g a b k i i := by
  intro k
  induction k with
  | zero => intro _; trivial
  | succ k ih => intro i; exact ⟨rfl, ih _, ih _⟩
theorem ty_s_y : ∀ k i j, ty_s g a b k i j → ty_s g a b k j i := by
  intro k
  induction k with
  | zero => intro _ _ _; trivial
  | succ k ih => intro i j h; exact ⟨h.1.symm, ih _ _ h.2.1, ih _ _ h.2.2⟩
theorem ty_s_t : ∀ k i j l, ty_s g a b k i j → ty_s g a b k j l → ty_s g a b k i l := by
  intro k
  induction k with
  | zero => intro _ _ _ _ _; trivial
  | succ k ih => intro i j l h h'; exact ⟨h.1.trans h'.1, ih _ _ _ h.2.1 h'.2.1, ih _ _ _ h.2.2 h'.2.2⟩
theorem ty_s_m : ∀ k i j, ty_s g a b (k + 1) i j → ty_s g a b k i j := by
  intro k
  induction k with
  | zero => intro _ _ _; trivial
  | succ k ih => intro i j h; exact ⟨h.1, ih _ _ h.2.1, ih _ _ h.2.2⟩
theorem ty_s_le : ∀ m k i j, ty_s g a b (k + m) i j → ty_s g a b k i j := by
  intro m
  induction m with
  | zero => intro _ _ _ h; exact h
  | succ m ih => intro k i j h; exact ih k i j (ty_s_m _ _ _ h)
theorem ty_s_st {N k : Nat} (ha : ∀ i, i < N → a i < N) (hb : ∀ i, i < N → b i < N) (h : ∀ i j, i < N → j < N → ty_s g a b k i j → ty_s g a b (k + 1) i j) :
    ∀ m i j, i < N → j < N → ty_s g a b k i j → ty_s g a b (k + m) i j := by
  intro m
  induction m with
  | zero => intro i j _ _ h; exact h
  | succ m ih =>
    intro i j hi hj hs
    have h1 := h i j hi hj hs
    exact ⟨h1.1, ih _ _ (ha i hi) (ha j hj) h1.2.1, ih _ _ (hb i hi) (hb j hj) h1.2.2⟩
theorem ty_s_all {N k : Nat} (ha : ∀ i, i < N → a i < N) (hb : ∀ i, i < N → b i < N) (h : ∀ i j, i < N → j < N → ty_s g a b k i j → ty_s g a b (k + 1) i j)
    {i j : Nat} (hi : i < N) (hj : j < N) (hs : ty_s g a b k i j) : ∀ m, ty_s g a b m i j := by
  intro m
  have h1 := ty_s_st ha hb h m i j hi hj hs
  rw [Nat.add_comm] at h1
  exact ty_s_le k m i j h1
/-- c names each class to depth k by its lowest member -/
def ty_c (g a b : Nat → Nat) (N k : Nat) (c : Nat → Nat) : Prop := ∀ i, i < N → c i ≤ i ∧ ty_s g a b k i (c i) ∧ ∀ j, j < c i → ¬ ty_s g a b k i j
theorem ty_c_eq {N k : Nat} {c : Nat → Nat} (h : ty_c g a b N k c) {i j : Nat} (hi : i < N) (hj : j < N) : c i = c j ↔ ty_s g a b k i j := by
  obtain ⟨i1, i2, i3⟩ := h i hi
  obtain ⟨j1, j2, j3⟩ := h j hj
  constructor
  · intro e
    rw [e] at i2
    exact ty_s_t _ _ _ _ i2 (ty_s_y _ _ _ j2)
  · intro s
    rcases Nat.lt_trichotomy (c i) (c j) with l | l | l
    · exact absurd (ty_s_t _ _ _ _ (ty_s_y _ _ _ s) i2) (j3 _ l)
    · exact l
    · exact absurd (ty_s_t _ _ _ _ s j2) (i3 _ l)
theorem ty_c_0 {N : Nat} : ty_c g a b N 0 (fun _ => 0) := fun i _ => ⟨Nat.zero_le i, trivial, fun j hj => absurd hj (Nat.not_lt_zero j)⟩
theorem ty_c_step {N k : Nat} {c c' : Nat → Nat} (ha : ∀ i, i < N → a i < N) (hb : ∀ i, i < N → b i < N) (h : ty_c g a b N k c)
    (h' : ∀ i, i < N → c' i ≤ i ∧ (g (c' i) = g i ∧ c (a (c' i)) = c (a i) ∧ c (b (c' i)) = c (b i)) ∧ ∀ j, j < c' i → ¬ (g j = g i ∧ c (a j) = c (a i) ∧ c (b j) = c (b i))) :
    ty_c g a b N (k + 1) c' := by
  have q : ∀ i j, i < N → j < N → (ty_s g a b (k + 1) i j ↔ (g j = g i ∧ c (a j) = c (a i) ∧ c (b j) = c (b i))) := by
    intro i j hi hj
    constructor
    · intro s
      exact ⟨s.1.symm, ((ty_c_eq h (ha _ hi) (ha _ hj)).mpr s.2.1).symm, ((ty_c_eq h (hb _ hi) (hb _ hj)).mpr s.2.2).symm⟩
    · intro s
      exact ⟨s.1.symm, (ty_c_eq h (ha _ hi) (ha _ hj)).mp s.2.1.symm, (ty_c_eq h (hb _ hi) (hb _ hj)).mp s.2.2.symm⟩
  intro i hi
  obtain ⟨h1, h2, h3⟩ := h' i hi
  refine ⟨h1, (q i _ hi (by omega)).mpr h2, fun j hj s => h3 j hj ((q i j hi (by omega)).mp s)⟩
theorem ty_c_fix {N k : Nat} {c c' : Nat → Nat} (ha : ∀ i, i < N → a i < N) (hb : ∀ i, i < N → b i < N) (h : ty_c g a b N k c) (h' : ty_c g a b N (k + 1) c') (e : ∀ i, i < N → c i = c' i) :
    ∀ i, i < N → c' i ≤ i ∧ (∀ m, ty_s g a b m i (c' i)) ∧ ∀ j, j < c' i → ¬ ∀ m, ty_s g a b m i j := by
  have q : ∀ i j, i < N → j < N → ty_s g a b k i j → ty_s g a b (k + 1) i j := by
    intro i j hi hj s
    have := (ty_c_eq h hi hj).mpr s
    rw [e i hi, e j hj] at this
    exact (ty_c_eq h' hi hj).mp this
  intro i hi
  obtain ⟨h1, h2, h3⟩ := h' i hi
  exact ⟨h1, ty_s_all ha hb q hi (by omega) (ty_s_m _ _ _ h2), fun j hj s => h3 j hj (s _)⟩
theorem ty_c_more {N k : Nat} {c c' : Nat → Nat} (h : ty_c g a b N k c) (h' : ty_c g a b N (k + 1) c') {m : Nat} (hm : m < N) (e : c m ≠ c' m) :
    ty_cnt (fun i => decide (c i = i)) N < ty_cnt (fun i => decide (c' i = i)) N := by
  obtain ⟨m1, m2, m3⟩ := h' m hm
  refine ty_cnt_lt N ?_ (c' m) (by omega) ?_ ?_
  · intro i hi ci
    have ci := of_decide_eq_true ci
    obtain ⟨i1, i2, i3⟩ := h' i hi
    obtain ⟨j1, j2, j3⟩ := h i hi
    refine decide_eq_true ?_
    rcases Nat.lt_or_ge (c' i) i with l | l
    · exact absurd (ty_s_m _ _ _ i2) (j3 _ (by omega))
    · omega
  · refine decide_eq_false ?_
    intro z
    have := (ty_c_eq h hm (show c' m < N by omega)).mpr (ty_s_m _ _ _ m2)
    omega
  · refine decide_eq_true ?_
    obtain ⟨i1, i2, i3⟩ := h' (c' m) (by omega)
    rcases Nat.lt_or_ge (c' (c' m)) (c' m) with l | l
    · exact absurd (ty_s_t _ _ _ _ m2 i2) (m3 _ l)
    · omega

/-! the pair tables by stages -/
theorem ty_e_m : ∀ k t u, ty_e K A B (k + 1) t u → ty_e K A B k t u := by
  intro k
  induction k with
  | zero => intro _ _ _; trivial
  | succ k ih => intro t u h; exact ⟨h.1, h.2.1.imp id (ih _ _), h.2.2.imp id (ih _ _)⟩
theorem ty_e_le : ∀ m k t u, ty_e K A B (k + m) t u → ty_e K A B k t u := by
  intro m
  induction m with
  | zero => intro _ _ _ h; exact h
  | succ m ih => intro k t u h; exact ih k t u (ty_e_m _ _ _ h)
theorem ty_e_all {k : Nat} (hA : ∀ i, i < 16 → A i < 16) (hB : ∀ i, i < 16 → B i < 16) (h : ∀ t u, t < 16 → u < 16 → ty_e K A B k t u → ty_e K A B (k + 1) t u)
    {t u : Nat} (ht : t < 16) (hu : u < 16) (hs : ty_e K A B k t u) : ty_E K A B t u := by
  have st : ∀ m t u, t < 16 → u < 16 → ty_e K A B k t u → ty_e K A B (k + m) t u := by
    intro m
    induction m with
    | zero => intro t u _ _ h; exact h
    | succ m ih =>
      intro t u ht hu hs
      have h1 := h t u ht hu hs
      exact ⟨h1.1, h1.2.1.imp id (ih _ _ (hA t ht) (hA u hu)), h1.2.2.imp id (ih _ _ (hB t ht) (hB u hu))⟩
  intro m
  have h1 := st m t u ht hu hs
  rw [Nat.add_comm] at h1
  exact ty_e_le k m t u h1
theorem ty_d_m : ∀ k t u, ty_d K A B (k + 1) t u → ty_d K A B k t u := by
  intro k
  induction k with
  | zero => intro _ _ _; trivial
  | succ k ih => intro t u h; exact ⟨h.1, h.2.1.imp id (ih _ _), h.2.2.1, h.2.2.2.imp id (ih _ _)⟩
theorem ty_d_le : ∀ m k t u, ty_d K A B (k + m) t u → ty_d K A B k t u := by
  intro m
  induction m with
  | zero => intro _ _ _ h; exact h
  | succ m ih => intro k t u h; exact ih k t u (ty_d_m _ _ _ h)
theorem ty_d_all {k : Nat} (hA : ∀ i, i < 16 → A i < 16) (hB : ∀ i, i < 16 → B i < 16) (h : ∀ t u, t < 16 → u < 16 → ty_d K A B k t u → ty_d K A B (k + 1) t u)
    {t u : Nat} (ht : t < 16) (hu : u < 16) (hs : ty_d K A B k t u) : ty_D K A B t u := by
  have st : ∀ m t u, t < 16 → u < 16 → ty_d K A B k t u → ty_d K A B (k + m) t u := by
    intro m
    induction m with
    | zero => intro t u _ _ h; exact h
    | succ m ih =>
      intro t u ht hu hs
      have h1 := h t u ht hu hs
      exact ⟨h1.1, h1.2.1.imp id (ih _ _ (hA t ht) (hA u hu)), h1.2.2.1, h1.2.2.2.imp id (ih _ _ (hB t ht) (hB u hu))⟩
  intro m
  have h1 := st m t u ht hu hs
  rw [Nat.add_comm] at h1
  exact ty_d_le k m t u h1

/-! the doubled graph -/
def ty_gk (T : Nat) (K : Nat → Nat) (i : Nat) : Nat := if i < T then K i else ty_op (K (i - T))
def ty_ga (T : Nat) (K A : Nat → Nat) (i : Nat) : Nat := if i < T then A i else if K (i - T) = 0 then 0 else T + A (i - T)
def ty_gb (T : Nat) (K B : Nat → Nat) (i : Nat) : Nat := if i < T then B i else if K (i - T) < 5 then B (i - T) else T + B (i - T)
/-- the type table is sound -/
def ty_W (T : Nat) (K A B : Nat → Nat) : Prop := 2 ≤ T ∧ T ≤ 16 ∧ ∀ i, i < 16 → K i ≤ 6 ∧ A i < T ∧ B i < T ∧ (K i = 0 → A i = 0) ∧ (K i < 3 → B i = 0)
def ty_S (T : Nat) (K A B : Nat → Nat) (i j : Nat) : Prop := ∀ m, ty_s (ty_gk T K) (ty_ga T K A) (ty_gb T K B) m i j
def ty_C (T : Nat) (K A B c : Nat → Nat) : Prop := ∀ i, i < 2 * T → c i ≤ i ∧ ty_S T K A B i (c i) ∧ ∀ j, j < c i → ¬ ty_S T K A B i j
variable {T : Nat} {c : Nat → Nat}
theorem ty_ga_lt (w : ty_W T K A B) : ∀ i, i < 2 * T → ty_ga T K A i < 2 * T := by
  intro i hi
  unfold ty_ga
  obtain ⟨w1, w2, w3⟩ := w
  by_cases h : i < T
  · rw [if_pos h]; have := (w3 i (by omega)).2.1; omega
  · rw [if_neg h]
    have := (w3 (i - T) (by omega)).2.1
    split <;> omega
theorem ty_gb_lt (w : ty_W T K A B) : ∀ i, i < 2 * T → ty_gb T K B i < 2 * T := by
  intro i hi
  unfold ty_gb
  obtain ⟨w1, w2, w3⟩ := w
  by_cases h : i < T
  · rw [if_pos h]; have := (w3 i (by omega)).2.2.1; omega
  · rw [if_neg h]
    have := (w3 (i - T) (by omega)).2.2.1
    split <;> omega
theorem ty_gk_lo {t : Nat} (h : t < T) : ty_gk T K t = K t := if_pos h
theorem ty_ga_lo {t : Nat} (h : t < T) : ty_ga T K A t = A t := if_pos h
theorem ty_gb_lo {t : Nat} (h : t < T) : ty_gb T K B t = B t := if_pos h
theorem ty_gk_hi {t : Nat} : ty_gk T K (T + t) = ty_op (K t) := by
  unfold ty_gk; rw [if_neg (by omega), Nat.add_sub_cancel_left]
theorem ty_ga_hi {t : Nat} : ty_ga T K A (T + t) = if K t = 0 then 0 else T + A t := by
  unfold ty_ga; rw [if_neg (by omega), Nat.add_sub_cancel_left]
theorem ty_gb_hi {t : Nat} : ty_gb T K B (T + t) = if K t < 5 then B t else T + B t := by
  unfold ty_gb; rw [if_neg (by omega), Nat.add_sub_cancel_left]
theorem ty_se (w : ty_W T K A B) : ∀ k t u, t < T → u < T → (ty_s (ty_gk T K) (ty_ga T K A) (ty_gb T K B) k t u ↔ ty_e K A B k t u) := by
  intro k
  induction k with
  | zero => intro t u _ _; exact Iff.rfl
  | succ k ih =>
    intro t u ht hu
    obtain ⟨w1, w2, w3⟩ := w
    have wt := w3 t (by omega)
    have wu := w3 u (by omega)
    rw [ty_s, ty_e, ty_gk_lo ht, ty_gk_lo hu, ty_ga_lo ht, ty_ga_lo hu, ty_gb_lo ht, ty_gb_lo hu, ih _ _ wt.2.1 wu.2.1, ih _ _ wt.2.2.1 wu.2.2.1]
    constructor
    · intro h; exact ⟨h.1, Or.inr h.2.1, Or.inr h.2.2⟩
    · intro h
      refine ⟨h.1, ?_, ?_⟩
      · rcases h.2.1 with z | z
        · rw [wt.2.2.2.1 z, wu.2.2.2.1 (by omega)]
          exact (ih 0 0 (by omega) (by omega)).mp (ty_s_r _ _)
        · exact z
      · rcases h.2.2 with z | z
        · rw [wt.2.2.2.2 z, wu.2.2.2.2 (by omega)]
          exact (ih 0 0 (by omega) (by omega)).mp (ty_s_r _ _)
        · exact z
theorem ty_SE (w : ty_W T K A B) {t u : Nat} (ht : t < T) (hu : u < T) : ty_S T K A B t u ↔ ty_E K A B t u :=
  ⟨fun h k => (ty_se w k t u ht hu).mp (h k), fun h k => (ty_se w k t u ht hu).mpr (h k)⟩
theorem ty_sd (w : ty_W T K A B) : ∀ k t u, t < T → u < T → ty_S T K A B (T + t) u → ty_d K A B k t u := by
  intro k
  induction k with
  | zero => intro t u _ _ _; trivial
  | succ k ih =>
    intro t u ht hu h
    have wt := w.2.2 t (by have := w.2.1; omega)
    have wu := w.2.2 u (by have := w.2.1; omega)
    have h1 := (h 1).1
    rw [ty_gk_hi, ty_gk_lo hu] at h1
    have hA : ∀ m, ty_s (ty_gk T K) (ty_ga T K A) (ty_gb T K B) m (if K t = 0 then 0 else T + A t) (A u) := by
      intro m
      have := (h (m + 1)).2.1
      rw [ty_ga_hi, ty_ga_lo hu] at this
      exact this
    have hB : ∀ m, ty_s (ty_gk T K) (ty_ga T K A) (ty_gb T K B) m (if K t < 5 then B t else T + B t) (B u) := by
      intro m
      have := (h (m + 1)).2.2
      rw [ty_gb_hi, ty_gb_lo hu] at this
      exact this
    refine ⟨h1.symm, ?_, ?_, ?_⟩
    · by_cases z : K t = 0
      · exact Or.inl z
      · rw [if_neg z] at hA
        exact Or.inr (ih _ _ wt.2.1 wu.2.1 hA)
    · by_cases z : K t ≠ 3 ∧ K t ≠ 4
      · exact Or.inl z
      · rw [if_pos (by omega)] at hB
        exact Or.inr ((ty_SE w wt.2.2.1 wu.2.2.1).mp hB)
    · by_cases z : K t < 5
      · exact Or.inl z
      · rw [if_neg z] at hB
        exact Or.inr (ih _ _ wt.2.2.1 wu.2.2.1 hB)
theorem ty_op_lt3 : ∀ k, k < 3 → ty_op k < 3 := by decide
theorem ty_op_0 : ty_op 0 = 0 := rfl
theorem ty_ds (w : ty_W T K A B) : ∀ k t u, t < T → u < T → ty_D K A B t u → ty_s (ty_gk T K) (ty_ga T K A) (ty_gb T K B) k (T + t) u := by
  intro k
  induction k with
  | zero => intro t u _ _ _; trivial
  | succ k ih =>
    intro t u ht hu h
    have wt := w.2.2 t (by have := w.2.1; omega)
    have wu := w.2.2 u (by have := w.2.1; omega)
    have h1 := (h 1).1
    rw [ty_s, ty_gk_hi, ty_gk_lo hu, ty_ga_hi, ty_ga_lo hu, ty_gb_hi, ty_gb_lo hu]
    refine ⟨h1.symm, ?_, ?_⟩
    · by_cases z : K t = 0
      · rw [if_pos z, wu.2.2.2.1 (by rw [h1, z]; rfl)]
        exact ty_s_r _ _
      · rw [if_neg z]
        exact ih _ _ wt.2.1 wu.2.1 (fun m => (h (m + 1)).2.1.resolve_left z)
    · by_cases z : K t < 5
      · rw [if_pos z]
        by_cases y : K t < 3
        · rw [wt.2.2.2.2 y, wu.2.2.2.2 (by rw [h1]; exact ty_op_lt3 _ y)]
          exact ty_s_r _ _
        · have := (h 1).2.2.1.resolve_left (by omega)
          exact (ty_SE w wt.2.2.1 wu.2.2.1).mpr this k
      · rw [if_neg z]
        exact ih _ _ wt.2.2.1 wu.2.2.1 (fun m => (h (m + 1)).2.2.2.resolve_left z)
theorem ty_SD (w : ty_W T K A B) {t u : Nat} (ht : t < T) (hu : u < T) : ty_S T K A B (T + t) u ↔ ty_D K A B t u :=
  ⟨fun h k => ty_sd w k t u ht hu h, fun h k => ty_ds w k t u ht hu h⟩
theorem ty_S_t {i j l : Nat} (h : ty_S T K A B i j) (h' : ty_S T K A B j l) : ty_S T K A B i l := fun m => ty_s_t _ _ _ _ (h m) (h' m)
theorem ty_S_y {i j : Nat} (h : ty_S T K A B i j) : ty_S T K A B j i := fun m => ty_s_y _ _ _ (h m)
theorem ty_C_eq (h : ty_C T K A B c) {i j : Nat} (hi : i < 2 * T) (hj : j < 2 * T) : c i = c j ↔ ty_S T K A B i j := by
  obtain ⟨i1, i2, i3⟩ := h i hi
  obtain ⟨j1, j2, j3⟩ := h j hj
  constructor
  · intro e
    rw [e] at i2
    exact ty_S_t i2 (ty_S_y j2)
  · intro s
    rcases Nat.lt_trichotomy (c i) (c j) with l | l | l
    · exact absurd (ty_S_t (ty_S_y s) i2) (j3 _ l)
    · exact l
    · exact absurd (ty_S_t s j2) (i3 _ l)
theorem ty_C_E (w : ty_W T K A B) (h : ty_C T K A B c) {t u : Nat} (ht : t < T) (hu : u < T) : c t = c u ↔ ty_E K A B t u :=
  (ty_C_eq h (by omega) (by omega)).trans (ty_SE w ht hu)
theorem ty_C_D (w : ty_W T K A B) (h : ty_C T K A B c) {t u : Nat} (ht : t < T) (hu : u < T) : c (T + t) = c u ↔ ty_D K A B t u :=
  (ty_C_eq h (by omega) (by omega)).trans (ty_SD w ht hu)
theorem ty_C_lo (w : ty_W T K A B) (h : ty_C T K A B c) {t : Nat} (ht : t < T) : c t < T ∧ ty_E K A B t (c t) ∧ ∀ u, u < c t → ¬ ty_E K A B t u := by
  obtain ⟨h1, h2, h3⟩ := h t (by omega)
  refine ⟨by omega, (ty_SE w ht (by omega)).mp h2, fun u hu e => h3 u hu ((ty_SE w ht (by omega)).mpr e)⟩
theorem ty_C_ld (w : ty_W T K A B) (h : ty_C T K A B c) {t : Nat} (ht : t < T) : c (T + t) < 2 * T ∧ (c (T + t) < T → ty_D K A B t (c (T + t))) ∧ ∀ u, u < T → u < c (T + t) → ¬ ty_D K A B t u := by
  obtain ⟨h1, h2, h3⟩ := h (T + t) (by omega)
  refine ⟨by omega, fun l => (ty_SD w ht l).mp h2, fun u hT hu e => h3 u hu ((ty_SD w ht hT).mpr e)⟩
end TYM
end
section
section TMM
/-! terms in prefix order: the pending count, ends of terms, the way down to a position -/
def tm_g (o m : Nat) : Nat := if o = 0 ∨ o = 1 then m - 1 else if o = 5 ∨ o = 11 then m + 1 else m
def tm_M (op : Nat → Nat) : Nat → Nat
  | 0 => 1
  | i + 1 => tm_g (op i) (tm_M op i)
def tm_T (op : Nat → Nat) (N f e : Nat) : Prop := f < e ∧ e ≤ N ∧ tm_M op e + 1 = tm_M op f ∧ ∀ j, f ≤ j → j < e → tm_M op f ≤ tm_M op j
def tm_U (op : Nat → Nat) (N f : Nat) : Prop := ∀ j, f ≤ j → j ≤ N → tm_M op f ≤ tm_M op j
variable {op : Nat → Nat} {N : Nat}
theorem tm_dn (i : Nat) : tm_M op i ≤ tm_M op (i + 1) + 1 := by
  rw [tm_M]; unfold tm_g; split
  · omega
  · split <;> omega
theorem tm_up (i : Nat) : tm_M op (i + 1) ≤ tm_M op i + 1 := by
  rw [tm_M]; unfold tm_g; split
  · omega
  · split <;> omega
theorem tm_ter {i : Nat} (h : op i = 0 ∨ op i = 1) : tm_M op (i + 1) = tm_M op i - 1 := by
  rw [tm_M]; unfold tm_g; rw [if_pos h]
theorem tm_frk {i : Nat} (h : op i = 5 ∨ op i = 11) : tm_M op (i + 1) = tm_M op i + 1 := by
  rw [tm_M]; unfold tm_g; rw [if_neg (by omega), if_pos h]
theorem tm_sim {i : Nat} (h : ¬ (op i = 0 ∨ op i = 1)) (h' : ¬ (op i = 5 ∨ op i = 11)) : tm_M op (i + 1) = tm_M op i := by
  rw [tm_M]; unfold tm_g; rw [if_neg h, if_neg h']
theorem tm_nt {i : Nat} (h : ¬ (op i = 0 ∨ op i = 1)) : tm_M op i ≤ tm_M op (i + 1) := by
  by_cases h' : op i = 5 ∨ op i = 11
  · rw [tm_frk h']; omega
  · rw [tm_sim h h']; exact Nat.le_refl _
theorem tm_is_frk {i : Nat} (h : tm_M op i < tm_M op (i + 1)) : op i = 5 ∨ op i = 11 := by
  by_cases h1 : op i = 0 ∨ op i = 1
  · rw [tm_ter h1] at h; omega
  · by_cases h2 : op i = 5 ∨ op i = 11
    · exact h2
    · rw [tm_sim h1 h2] at h; omega
theorem tm_least (P : Nat → Prop) : ∀ n, P n → ∃ k, k ≤ n ∧ P k ∧ ∀ j, j < k → ¬ P j := by
  intro n h
  obtain ⟨k, hk, hm⟩ := pk_least P ⟨n, h⟩
  refine ⟨k, ?_, hk, hm⟩
  rcases Nat.lt_or_ge n k with l | l
  · exact absurd h (hm n l)
  · exact l
theorem tm_most (P : Nat → Prop) (h0 : P 0) : ∀ n, ∃ k, k ≤ n ∧ P k ∧ ∀ j, k < j → j ≤ n → ¬ P j := by
  intro n
  induction n with
  | zero => exact ⟨0, Nat.le_refl _, h0, fun j h1 h2 => absurd h1 (by omega)⟩
  | succ n ih =>
    by_cases h : P (n + 1)
    · exact ⟨n + 1, Nat.le_refl _, h, fun j h1 h2 => absurd h1 (by omega)⟩
    · obtain ⟨k, k1, k2, k3⟩ := ih
      refine ⟨k, by omega, k2, fun j h1 h2 => ?_⟩
      by_cases e : j = n + 1
      · rw [e]; exact h
      · exact k3 j h1 (by omega)
theorem tm_ex (op : Nat → Nat) (N f : Nat) : (∃ e, tm_T op N f e) ∨ tm_U op N f := by
  by_cases h : ∃ j, f ≤ j ∧ j ≤ N ∧ tm_M op j < tm_M op f
  · obtain ⟨j, hj⟩ := h
    obtain ⟨k, k0, k1, k2⟩ := tm_least (fun j => f ≤ j ∧ j ≤ N ∧ tm_M op j < tm_M op f) j hj
    left
    have kf : f < k := by
      rcases Nat.lt_or_ge f k with l | l
      · exact l
      · have : k = f := by omega
        rw [this] at k1
        omega
    have km : ∀ i, f ≤ i → i < k → tm_M op f ≤ tm_M op i := by
      intro i h1 h2
      rcases Nat.lt_or_ge (tm_M op i) (tm_M op f) with l | l
      · exact absurd ⟨h1, by omega, l⟩ (k2 i h2)
      · exact l
    obtain ⟨m, rfl⟩ : ∃ m, k = m + 1 := ⟨k - 1, by omega⟩
    have h1 := km m (by omega) (by omega)
    have h2 := tm_dn (op := op) m
    exact ⟨m + 1, kf, k1.2.1, by omega, km⟩
  · right
    intro j h1 h2
    rcases Nat.lt_or_ge (tm_M op j) (tm_M op f) with l | l
    · exact absurd ⟨j, h1, h2, l⟩ h
    · exact l
theorem tm_T_u {f e e' : Nat} (h : tm_T op N f e) (h' : tm_T op N f e') : e = e' := by
  obtain ⟨a1, a2, a3, a4⟩ := h
  obtain ⟨b1, b2, b3, b4⟩ := h'
  rcases Nat.lt_trichotomy e e' with l | l | l
  · have := b4 e (by omega) l; omega
  · exact l
  · have := a4 e' (by omega) l; omega
theorem tm_T_nU {f e : Nat} (h : tm_T op N f e) (h' : tm_U op N f) : False := by
  obtain ⟨a1, a2, a3, a4⟩ := h
  have := h' e (by omega) a2
  omega
/-- the end of the term at f; 24 if it isn't finished -/
noncomputable def tm_e (op : Nat → Nat) (N f : Nat) : Nat := @dite Nat (∃ e, tm_T op N f e) (Classical.propDecidable _) (fun h => Classical.choose h) (fun _ => 24)
theorem tm_e_T {f e : Nat} (h : tm_T op N f e) : tm_e op N f = e := by
  unfold tm_e
  rw [dif_pos ⟨e, h⟩]
  exact tm_T_u (Classical.choose_spec (p := fun e => tm_T op N f e) ⟨e, h⟩) h
theorem tm_e_U {f : Nat} (h : tm_U op N f) : tm_e op N f = 24 := by
  unfold tm_e
  exact dif_neg (fun ⟨e, he⟩ => tm_T_nU he h)
theorem tm_e_lt {f : Nat} (hN : N ≤ 24) {q : Nat} (hq : q < N) (h : tm_e op N f ≤ q) : tm_T op N f (tm_e op N f) := by
  rcases tm_ex op N f with ⟨e, he⟩ | u
  · rw [tm_e_T he]; exact he
  · rw [tm_e_U u] at h; omega
theorem tm_e_gt {f : Nat} {q : Nat} (hq : f < 24) : f < tm_e op N f := by
  rcases tm_ex op N f with ⟨e, he⟩ | u
  · rw [tm_e_T he]; exact he.1
  · rw [tm_e_U u]; exact hq
/-- q is the position that r hands its first (second) context to -/
def tm_ch (op : Nat → Nat) (N r q : Nat) (b : Bool) : Prop := (b = false ∧ q = r + 1 ∧ ¬ (op r = 0 ∨ op r = 1)) ∨ (b = true ∧ (op r = 5 ∨ op r = 11) ∧ tm_T op N (r + 1) q)
theorem tm_ch_lt {r q : Nat} {b : Bool} (h : tm_ch op N r q b) : r < q := by
  rcases h with ⟨_, h, _⟩ | ⟨_, _, h⟩
  · omega
  · have := h.1; omega
theorem tm_par (hM : ∀ i, i < N → 0 < tm_M op i) {q : Nat} (hq : q < N) (h0 : 0 < q) : ∃ r b, r < q ∧ tm_ch op N r q b := by
  by_cases ht : op (q - 1) = 0 ∨ op (q - 1) = 1
  · obtain ⟨r, r1, r2, r3⟩ := tm_most (fun j => tm_M op j ≤ tm_M op q) (by have := hM q hq; show tm_M op 0 ≤ _; rw [tm_M]; omega) (q - 1)
    have hl : tm_M op q < tm_M op (q - 1) := by
      have h1 := tm_ter ht
      have h2 := hM (q - 1) (by omega)
      rw [show q - 1 + 1 = q by omega] at h1
      omega
    have r4 : r < q - 1 := by
      rcases Nat.lt_or_ge r (q - 1) with l | l
      · exact l
      · have : r = q - 1 := by omega
        rw [this] at r2
        exact absurd r2 (by show ¬ tm_M op (q - 1) ≤ tm_M op q; omega)
    have r5 : ∀ j, r < j → j < q → tm_M op q < tm_M op j := fun j a b => by
      have := r3 j a (by omega)
      exact Nat.lt_of_not_le this
    have r2 : tm_M op r ≤ tm_M op q := r2
    have r6 := r5 (r + 1) (by omega) (by omega)
    have r7 := tm_is_frk (op := op) (i := r) (by omega)
    have r8 := tm_frk r7
    refine ⟨r, true, by omega, Or.inr ⟨rfl, r7, by omega, by omega, by omega, fun j h1 h2 => ?_⟩⟩
    have := r5 j (by omega) h2
    omega
  · exact ⟨q - 1, false, by omega, Or.inl ⟨rfl, by omega, ht⟩⟩
noncomputable def tm_two (op : Nat → Nat) (N i q : Nat) : Bool := decide ((op i = 5 ∨ op i = 11) ∧ tm_e op N (i + 1) ≤ q)
noncomputable def tm_nx (op : Nat → Nat) (N i q : Nat) : Nat := if tm_two op N i q = true then tm_e op N (i + 1) else i + 1
/-- the way from i down to q -/
noncomputable def tm_D {α : Type} (st : Nat → Bool → α → α) (op : Nat → Nat) (N q : Nat) : Nat → Nat → α → α
  | 0, _, s => s
  | n + 1, i, s => if q ≤ i then s else tm_D st op N q n (tm_nx op N i q) (st i (tm_two op N i q) s)
theorem tm_two_t {i q : Nat} : tm_two op N i q = true ↔ ((op i = 5 ∨ op i = 11) ∧ tm_e op N (i + 1) ≤ q) := by
  unfold tm_two; exact decide_eq_true_iff
theorem tm_D_end {α : Type} {st : Nat → Bool → α → α} {q i : Nat} {s : α} (h : q ≤ i) : ∀ n, tm_D st op N q n i s = s := by
  intro n
  cases n with
  | zero => rfl
  | succ n => rw [tm_D, if_pos h]
theorem tm_D_s {α : Type} {st : Nat → Bool → α → α} {q i n : Nat} {s : α} (h : i < q) : tm_D st op N q (n + 1) i s = tm_D st op N q n (tm_nx op N i q) (st i (tm_two op N i q) s) := by
  rw [tm_D, if_neg (by omega)]
theorem tm_same (hN : N ≤ 24) {i r q : Nat} {b : Bool} (hq : q < N) (hc : tm_ch op N r q b) (hi : i < r) : tm_two op N i q = tm_two op N i r := by
  have hrq := tm_ch_lt hc
  have key : tm_two op N i q = true ↔ tm_two op N i r = true := by
    rw [tm_two_t, tm_two_t]
    constructor
    · rintro ⟨f, le⟩
      refine ⟨f, ?_⟩
      rcases Nat.lt_or_ge r (tm_e op N (i + 1)) with l | l
      · exfalso
        obtain ⟨t1, t2, t3, t4⟩ := tm_e_lt hN hq le
        have m1 := t4 r (by omega) l
        rcases hc with ⟨_, c2, c3⟩ | ⟨_, c2, c3⟩
        · have : tm_e op N (i + 1) = r + 1 := by omega
          rw [this] at t3
          have := tm_nt c3
          omega
        · obtain ⟨s1, s2, s3, s4⟩ := c3
          have := tm_frk c2
          rcases Nat.lt_or_ge (tm_e op N (i + 1)) q with l2 | l2
          · have := s4 _ (by omega) l2
            omega
          · have e : tm_e op N (i + 1) = q := by omega
            rw [e] at t3
            omega
      · exact l
    · rintro ⟨f, le⟩
      exact ⟨f, by omega⟩
  cases h1 : tm_two op N i q <;> cases h2 : tm_two op N i r <;> rw [h1, h2] at key <;> simp at key <;> rfl
theorem tm_nx_gt (hN : N ≤ 24) {i q : Nat} (hi : i < q) (hq : q < N) : i < tm_nx op N i q ∧ tm_nx op N i q ≤ q := by
  unfold tm_nx
  split
  · next h =>
    rw [tm_two_t] at h
    have := tm_e_gt (op := op) (N := N) (f := i + 1) (q := q) (by omega)
    omega
  · omega
theorem tm_D_ch {α : Type} {st : Nat → Bool → α → α} (hN : N ≤ 24) {r q : Nat} {b : Bool} (hq : q < N) (hc : tm_ch op N r q b) :
    ∀ n i (s : α), i ≤ r → q ≤ n + i → tm_D st op N q n i s = st r b (tm_D st op N r n i s) := by
  have hrq := tm_ch_lt hc
  intro n
  induction n with
  | zero => intro i s h1 h2; omega
  | succ n ih =>
    intro i s h1 h2
    rcases Nat.lt_or_ge i r with l | l
    · have e := tm_same hN hq hc l
      have g := tm_nx_gt (op := op) hN l (show r < N by omega)
      rw [tm_D_s (show i < q by omega), tm_D_s l]
      have e2 : tm_nx op N i q = tm_nx op N i r := by unfold tm_nx; rw [e]
      rw [e2, e]
      exact ih _ _ g.2 (by omega)
    · have : i = r := by omega
      subst this
      rw [tm_D_end (Nat.le_refl i), tm_D_s hrq]
      rcases hc with ⟨c1, c2, c3⟩ | ⟨c1, c2, c3⟩
      · have : tm_two op N i q = false := by
          rcases Bool.eq_false_or_eq_true (tm_two op N i q) with h | h
          · rw [tm_two_t] at h
            have := tm_e_gt (op := op) (N := N) (f := i + 1) (q := q) (by omega)
            omega
          · exact h
        have e2 : tm_nx op N i q = q := by unfold tm_nx; rw [this, if_neg (by decide)]; omega
        rw [e2, this, tm_D_end (Nat.le_refl q), c1]
      · have : tm_two op N i q = true := by
          rw [tm_two_t, tm_e_T c3]; exact ⟨c2, Nat.le_refl _⟩
        have e2 : tm_nx op N i q = q := by unfold tm_nx; rw [this, if_pos rfl]; exact tm_e_T c3
        rw [e2, this, tm_D_end (Nat.le_refl q), c1]
/-- on the way to q nothing ends: the next place is a child -/
def tm_P (op : Nat → Nat) (i q : Nat) : Prop := ∀ j, i < j → j ≤ q → tm_M op i ≤ tm_M op j
theorem tm_P_0 (hM : ∀ i, i < N → 0 < tm_M op i) {q : Nat} (hq : q < N) : tm_P op 0 q := by
  intro j h1 h2
  have := hM j (by omega)
  rw [tm_M]; omega
theorem tm_P_nx (hN : N ≤ 24) (hM : ∀ i, i < N → 0 < tm_M op i) {i q : Nat} (hi : i < q) (hq : q < N) (hp : tm_P op i q) : tm_ch op N i (tm_nx op N i q) (tm_two op N i q) ∧ tm_P op (tm_nx op N i q) q := by
  have h1 := hp (i + 1) (by omega) (by omega)
  have h0 := hM i (by omega)
  have nt : ¬ (op i = 0 ∨ op i = 1) := by
    intro t
    rw [tm_ter t] at h1
    omega
  by_cases h : tm_two op N i q = true
  · have e : tm_nx op N i q = tm_e op N (i + 1) := by unfold tm_nx; rw [if_pos h]
    have h' := tm_two_t.mp h
    have t := tm_e_lt hN hq h'.2
    rw [e, h]
    refine ⟨Or.inr ⟨rfl, h'.1, t⟩, ?_⟩
    intro j j1 j2
    have := hp j (by have := t.1; omega) j2
    have := tm_frk h'.1
    have := t.2.2.1
    omega
  · have hf : tm_two op N i q = false := by
      rcases Bool.eq_false_or_eq_true (tm_two op N i q) with z | z
      · exact absurd z h
      · exact z
    have e : tm_nx op N i q = i + 1 := by unfold tm_nx; rw [if_neg h]
    rw [e, hf]
    refine ⟨Or.inl ⟨rfl, rfl, nt⟩, ?_⟩
    intro j j1 j2
    by_cases fk : op i = 5 ∨ op i = 11
    · have hq2 : q < tm_e op N (i + 1) := by
        rcases Nat.lt_or_ge q (tm_e op N (i + 1)) with l | l
        · exact l
        · exact absurd (tm_two_t.mpr ⟨fk, l⟩) h
      rcases tm_ex op N (i + 1) with ⟨x, hx⟩ | u
      · rw [tm_e_T hx] at hq2
        exact hx.2.2.2 j (by omega) (by omega)
      · exact u j (by omega) (by omega)
    · rw [tm_sim nt fk]
      exact hp j (by omega) j2
/-! a finished program -/
theorem tm_full_nt (hM : ∀ i, i < N → 0 < tm_M op i) (hE : tm_M op N = 0) {i : Nat} (hi : i < N) (h : ¬ (op i = 0 ∨ op i = 1)) : i + 1 < N := by
  have h1 := tm_nt h
  have h2 := hM i hi
  rcases Nat.lt_or_ge (i + 1) N with l | l
  · exact l
  · have : i + 1 = N := by omega
    rw [this] at h1
    omega
theorem tm_full_frk (hM : ∀ i, i < N → 0 < tm_M op i) (hE : tm_M op N = 0) {i : Nat} (hi : i < N) (h : op i = 5 ∨ op i = 11) : ∃ e, tm_T op N (i + 1) e ∧ e < N := by
  have h1 := tm_frk h
  have h2 := hM i hi
  rcases tm_ex op N (i + 1) with ⟨e, he⟩ | u
  · refine ⟨e, he, ?_⟩
    rcases Nat.lt_or_ge e N with l | l
    · exact l
    · have : e = N := by have := he.2.1; omega
      have h3 := he.2.2.1
      rw [this] at h3
      omega
  · have := u N (by omega) (Nat.le_refl _)
    omega
theorem tm_full_0 (hE : tm_M op N = 0) : 0 < N := by
  rcases Nat.eq_zero_or_pos N with z | z
  · rw [z, tm_M] at hE; omega
  · exact z
theorem tm_M_le : ∀ i, tm_M op i ≤ i + 1 := by
  intro i
  induction i with
  | zero => exact Nat.le_refl _
  | succ i ih => have := tm_up (op := op) i; omega
theorem tm_M_ext {op' : Nat → Nat} : ∀ i, (∀ j, j < i → op j = op' j) → tm_M op i = tm_M op' i := by
  intro i
  induction i with
  | zero => intro _; rfl
  | succ i ih => intro h; rw [tm_M, tm_M, ih (fun j hj => h j (by omega)), h i (by omega)]
end TMM
end
section
section FOM
/-! graphs of 14 vertices and 16 edges: joins in order against striking out leaves -/
variable {U W : Nat → Nat} {T R : Nat → Bool}
/-- x and y get one label in every labelling that the edges of T respect -/
def fo_K (U W : Nat → Nat) (T : Nat → Bool) (x y : Nat) : Prop := ∀ c : Nat → Nat, (∀ e, e < 16 → T e = true → c (U e) = c (W e)) → c x = c y
def fo_w (T : Nat → Bool) (e : Nat) : Nat → Bool := fun f => T f && decide (f ≠ e)
def fo_b (T : Nat → Bool) (n : Nat) : Nat → Bool := fun f => T f && decide (f < n)
def fo_A (U W : Nat → Nat) (T : Nat → Bool) : Prop := ∀ e, e < 16 → T e = true → ¬ fo_K U W (fo_w T e) (U e) (W e)
def fo_A2 (U W : Nat → Nat) (T : Nat → Bool) : Prop := ∀ e, e < 16 → T e = true → ¬ fo_K U W (fo_b T e) (U e) (W e)
theorem fo_w_t {e f : Nat} : fo_w T e f = true ↔ T f = true ∧ f ≠ e := by unfold fo_w; rw [Bool.and_eq_true, decide_eq_true_iff]
theorem fo_b_t {n f : Nat} : fo_b T n f = true ↔ T f = true ∧ f < n := by unfold fo_b; rw [Bool.and_eq_true, decide_eq_true_iff]
theorem fo_K_mono {x y : Nat} (h : ∀ e, e < 16 → T e = true → R e = true) (k : fo_K U W T x y) : fo_K U W R x y := fun c hc => k c (fun e he ht => hc e he (h e he ht))
theorem fo_A_A2 (h : fo_A U W T) : fo_A2 U W T := fun e he ht k => h e he ht (fo_K_mono (fun f _ hf => fo_w_t.mpr ⟨(fo_b_t.mp hf).1, by have := (fo_b_t.mp hf).2; omega⟩) k)
theorem fo_A_none (h : ∀ e, e < 16 → T e = false) : fo_A U W T := fun e he ht => absurd ht (by rw [h e he]; decide)
theorem fo_A2_sub (h : ∀ e, e < 16 → R e = true → T e = true) (a : fo_A2 U W T) : fo_A2 U W R := fun e he hr k =>
  a e he (h e he hr) (fo_K_mono (fun f hf hb => fo_b_t.mpr ⟨h f hf (fo_b_t.mp hb).1, (fo_b_t.mp hb).2⟩) k)

/-! degrees -/
def fo_t (U W : Nat → Nat) (T : Nat → Bool) (v e : Nat) : Nat := if T e = true then (if U e = v then 1 else 0) + (if W e = v then 1 else 0) else 0
def fo_d (U W : Nat → Nat) (T : Nat → Bool) (v : Nat) : Nat → Nat
  | 0 => 0
  | n + 1 => fo_d U W T v n + fo_t U W T v n
theorem fo_d_ge {v : Nat} : ∀ n e, e < n → fo_t U W T v e ≤ fo_d U W T v n := by
  intro n
  induction n with
  | zero => intro e h; omega
  | succ n ih =>
    intro e h
    rw [fo_d]
    by_cases z : e = n
    · rw [z]; omega
    · have := ih e (by omega); omega
theorem fo_d_ge2 {v : Nat} : ∀ n e f, e < n → f < n → e ≠ f → fo_t U W T v e + fo_t U W T v f ≤ fo_d U W T v n := by
  intro n
  induction n with
  | zero => intro e f h; omega
  | succ n ih =>
    intro e f he hf hn
    rw [fo_d]
    by_cases z : e = n
    · have := fo_d_ge (U := U) (W := W) (T := T) (v := v) n f (by omega)
      rw [z]; omega
    · by_cases y : f = n
      · have := fo_d_ge (U := U) (W := W) (T := T) (v := v) n e (by omega)
        rw [y]; omega
      · have := ih e f (by omega) (by omega) hn
        omega
theorem fo_d_ex {v : Nat} : ∀ n, 0 < fo_d U W T v n → ∃ e, e < n ∧ T e = true ∧ (U e = v ∨ W e = v) := by
  intro n
  induction n with
  | zero => intro h; rw [fo_d] at h; omega
  | succ n ih =>
    intro h
    rw [fo_d] at h
    by_cases z : 0 < fo_d U W T v n
    · obtain ⟨e, e1, e2⟩ := ih z
      exact ⟨e, by omega, e2⟩
    · have h : 0 < fo_t U W T v n := by omega
      unfold fo_t at h
      by_cases t : T n = true
      · rw [if_pos t] at h
        refine ⟨n, by omega, t, ?_⟩
        by_cases u : U n = v
        · exact Or.inl u
        · rw [if_neg u] at h
          by_cases w : W n = v
          · exact Or.inr w
          · rw [if_neg w] at h; omega
      · rw [if_neg t] at h; omega
theorem fo_t_U {e : Nat} (h : T e = true) : 1 ≤ fo_t U W T (U e) e := by unfold fo_t; rw [if_pos h, if_pos rfl]; omega
theorem fo_t_W {e : Nat} (h : T e = true) : 1 ≤ fo_t U W T (W e) e := by unfold fo_t; rw [if_pos h, if_pos (show W e = W e from rfl)]; omega
/-- a vertex x of degree 1 on the edge e: x isn't on another edge, and e is no loop -/
theorem fo_leaf1 {x e : Nat} (he : e < 16) (ht : T e = true) (hx : U e = x ∨ W e = x) (hd : fo_d U W T x 16 = 1) :
    U e ≠ W e ∧ ∀ f, f < 16 → T f = true → f ≠ e → U f ≠ x ∧ W f ≠ x := by
  have h1 : 1 ≤ fo_t U W T x e := by
    rcases hx with h | h
    · rw [← h]; exact fo_t_U ht
    · rw [← h]; exact fo_t_W ht
  have h2 := fo_d_ge (U := U) (W := W) (T := T) (v := x) 16 e he
  constructor
  · intro z
    have : fo_t U W T x e = 2 := by
      unfold fo_t
      rcases hx with h | h
      · rw [if_pos ht, if_pos h, if_pos (z ▸ h)]
      · rw [if_pos ht, if_pos h, if_pos (z.trans h)]
    omega
  · intro f hf tf ne
    have h3 := fo_d_ge2 (U := U) (W := W) (T := T) (v := x) 16 e f he hf (fun z => ne z.symm)
    have h4 : fo_t U W T x f = 0 := by omega
    unfold fo_t at h4
    rw [if_pos tf] at h4
    constructor
    · intro z; rw [if_pos z] at h4; omega
    · intro z; rw [if_pos z] at h4; omega
theorem fo_strip1 {x y e : Nat} (he : e < 16) (ht : T e = true) (hx : (U e = x ∧ W e = y) ∨ (W e = x ∧ U e = y)) (hne : x ≠ y) (ho : ∀ f, f < 16 → T f = true → f ≠ e → U f ≠ x ∧ W f ≠ x) (a : fo_A U W (fo_w T e)) : fo_A U W T := by
  intro f hf tf k
  by_cases z : f = e
  · subst z
    have := k (fun v => if v = x then 1 else 0) (fun g hg tg => by
      have t := fo_w_t.mp tg
      have o := ho g hg t.1 t.2
      show (if U g = x then 1 else 0) = (if W g = x then 1 else 0)
      rw [if_neg o.1, if_neg o.2])
    rcases hx with ⟨h1, h2⟩ | ⟨h1, h2⟩
    · rw [h1, h2] at this
      simp only [if_true] at this
      rw [if_neg (fun q => hne q.symm)] at this
      omega
    · rw [h1, h2] at this
      simp only [if_true] at this
      rw [if_neg (fun q => hne q.symm)] at this
      omega
  · refine a f hf (fo_w_t.mpr ⟨tf, z⟩) (fun c hc => ?_)
    have of := ho f hf tf z
    have := k (fun v => if v = x then c y else c v) (fun g hg tg => by
      have t := fo_w_t.mp tg
      show (if U g = x then c y else c (U g)) = (if W g = x then c y else c (W g))
      by_cases w : g = e
      · subst w
        rcases hx with ⟨h1, h2⟩ | ⟨h1, h2⟩
        · rw [if_pos h1, if_neg (by rw [h2]; exact fun q => hne q.symm), h2]
        · rw [if_pos h1, if_neg (by rw [h2]; exact fun q => hne q.symm), h2]
      · have o := ho g hg t.1 w
        rw [if_neg o.1, if_neg o.2]
        exact hc g hg (fo_w_t.mpr ⟨fo_w_t.mpr ⟨t.1, w⟩, t.2⟩))
    rw [if_neg of.1, if_neg of.2] at this
    exact this
theorem fo_strip {e : Nat} (he : e < 16) (ht : T e = true) (hd : fo_d U W T (U e) 16 = 1 ∨ fo_d U W T (W e) 16 = 1) (a : fo_A U W (fo_w T e)) : fo_A U W T := by
  rcases hd with h | h
  · have l := fo_leaf1 he ht (Or.inl rfl) h
    exact fo_strip1 he ht (Or.inl ⟨rfl, rfl⟩) l.1 l.2 a
  · have l := fo_leaf1 he ht (Or.inr rfl) h
    exact fo_strip1 he ht (Or.inr ⟨rfl, rfl⟩) (fun z => l.1 z.symm) l.2 a

/-! joins in order -/
def fo_c (c : Nat → Nat) (k d : Nat) : Nat → Nat := fun v => if c v = d then k else c v
/-- c labels the graph of the edges below n -/
def fo_I (U W : Nat → Nat) (T : Nat → Bool) (n : Nat) (c : Nat → Nat) : Prop :=
  (∀ e, e < n → T e = true → c (U e) = c (W e)) ∧ (∀ x y, x < 14 → y < 14 → c x = c y → fo_K U W (fo_b T n) x y)
theorem fo_I_0 : fo_I U W T 0 (fun v => v) := ⟨fun e he => absurd he (Nat.not_lt_zero e), fun x y _ _ h c _ => congrArg c h⟩
theorem fo_I_skip {n : Nat} {c : Nat → Nat} (h : fo_I U W T n c) (t : T n = false) : fo_I U W T (n + 1) c := by
  refine ⟨fun e he te => ?_, fun x y hx hy e => fo_K_mono (fun f _ hf => fo_b_t.mpr ⟨(fo_b_t.mp hf).1, by have := (fo_b_t.mp hf).2; omega⟩) (h.2 x y hx hy e)⟩
  by_cases z : e = n
  · rw [z, t] at te; cases te
  · exact h.1 e (by omega) te
theorem fo_I_join {n : Nat} {c : Nat → Nat} (h : fo_I U W T n c) (t : T n = true) (hn : n < 16) (hU : U n < 14) (hW : W n < 14) : fo_I U W T (n + 1) (fo_c c (c (U n)) (c (W n))) := by
  constructor
  · intro e he te
    unfold fo_c
    by_cases z : e = n
    · rw [z, if_pos rfl]
      split <;> rfl
    · rw [h.1 e (by omega) te]
  · intro x y hx hy e l hl
    have h1 : ∀ x y, x < 14 → y < 14 → c x = c y → l x = l y := fun x y hx hy e => h.2 x y hx hy e l (fun f hf hb => hl f hf (fo_b_t.mpr ⟨(fo_b_t.mp hb).1, by have := (fo_b_t.mp hb).2; omega⟩))
    have h2 : l (U n) = l (W n) := hl n hn (fo_b_t.mpr ⟨t, by omega⟩)
    unfold fo_c at e
    by_cases cx : c x = c (W n)
    · rw [if_pos cx] at e
      by_cases cy : c y = c (W n)
      · exact h1 x y hx hy (cx.trans cy.symm)
      · rw [if_neg cy] at e
        rw [h1 x _ hx hW cx, ← h2]
        exact h1 _ y hU hy e
    · rw [if_neg cx] at e
      by_cases cy : c y = c (W n)
      · rw [if_pos cy] at e
        rw [h1 y _ hy hW cy, ← h2]
        exact h1 x _ hx hU e
      · rw [if_neg cy] at e
        exact h1 x y hx hy e
theorem fo_I_no {n : Nat} {c : Nat → Nat} (h : fo_I U W T n c) (ne : c (U n) ≠ c (W n)) : ¬ fo_K U W (fo_b T n) (U n) (W n) := fun k =>
  ne (k c (fun e _ hb => h.1 e (fo_b_t.mp hb).2 (fo_b_t.mp hb).1))
theorem fo_I_yes {n : Nat} {c : Nat → Nat} (h : fo_I U W T n c) (hn : n < 16) (t : T n = true) (hU : U n < 14) (hW : W n < 14) (e : c (U n) = c (W n)) : ¬ fo_A2 U W T := fun a =>
  a n hn t (h.2 _ _ hU hW e)

/-! sums -/
def fo_S (f : Nat → Int) : Nat → Int
  | 0 => 0
  | n + 1 => fo_S f n + f n
theorem fo_S_c {f g : Nat → Int} : ∀ n, (∀ v, v < n → f v = g v) → fo_S f n = fo_S g n := by
  intro n
  induction n with
  | zero => intro _; rfl
  | succ n ih => intro h; rw [fo_S, fo_S, ih (fun v hv => h v (by omega)), h n (by omega)]
theorem fo_S_le {f : Nat → Int} : ∀ n, (∀ v, v < n → f v ≤ 0) → fo_S f n ≤ 0 := by
  intro n
  induction n with
  | zero => intro _; exact Int.le_refl _
  | succ n ih => intro h; rw [fo_S]; have := ih (fun v hv => h v (by omega)); have := h n (by omega); omega
theorem fo_S_one {a : Nat} : ∀ n, a < n → fo_S (fun v => if v = a then 1 else 0) n = 1 := by
  have z : ∀ n, n ≤ a → fo_S (fun v => if v = a then 1 else 0) n = 0 := by
    intro n
    induction n with
    | zero => intro _; rfl
    | succ n ih => intro h; rw [fo_S, ih (by omega), if_neg (by omega)]; rfl
  intro n
  induction n with
  | zero => intro h; omega
  | succ n ih =>
    intro h
    rw [fo_S]
    by_cases e : n = a
    · rw [z n (by omega), if_pos e]; rfl
    · rw [ih (by omega), if_neg e]; rfl
theorem fo_S_lin {f g p q : Nat → Int} : ∀ n, fo_S (fun v => f v + g v - p v - q v) n = fo_S f n + fo_S g n - fo_S p n - fo_S q n := by
  intro n
  induction n with
  | zero => rfl
  | succ n ih => rw [fo_S, fo_S, fo_S, fo_S, fo_S, ih]; omega
/-- the sum of 2 - degree over one class -/
def fo_f (U W : Nat → Nat) (T : Nat → Bool) (n : Nat) (c : Nat → Nat) (k v : Nat) : Int := if c v = k then 2 - (fo_d U W T v n : Int) else 0
def fo_J (U W : Nat → Nat) (T : Nat → Bool) (n : Nat) (c : Nat → Nat) : Prop :=
  (∀ x, x < 14 → fo_S (fo_f U W T n c (c x)) 14 = 2) ∧ (∀ x y, x < 14 → y < 14 → fo_d U W T x n = 0 → c y = c x → y = x)
theorem fo_J_0 : fo_J U W T 0 (fun v => v) := by
  refine ⟨fun x hx => ?_, fun x y _ _ _ h => h⟩
  have h1 : fo_S (fo_f U W T 0 (fun v => v) x) 14 = fo_S (fun v => (if v = x then 1 else 0) + (if v = x then 1 else 0) - (0 : Int) - 0) 14 := by
    refine fo_S_c 14 (fun v _ => ?_)
    unfold fo_f
    rw [fo_d]
    split <;> rfl
  show fo_S (fo_f U W T 0 (fun v => v) x) 14 = 2
  rw [h1, fo_S_lin, fo_S_one 14 hx]
  rfl
theorem fo_d_skip {n v : Nat} (t : T n = false) : fo_d U W T v (n + 1) = fo_d U W T v n := by
  rw [fo_d]; unfold fo_t; rw [if_neg (by rw [t]; decide)]; rfl
theorem fo_d_add {n v : Nat} (t : T n = true) : fo_d U W T v (n + 1) = fo_d U W T v n + ((if U n = v then 1 else 0) + (if W n = v then 1 else 0)) := by
  rw [fo_d]; unfold fo_t; rw [if_pos t]
theorem fo_J_skip {n : Nat} {c : Nat → Nat} (h : fo_J U W T n c) (t : T n = false) : fo_J U W T (n + 1) c := by
  refine ⟨fun x hx => ?_, fun x y hx hy hd => ?_⟩
  · rw [← h.1 x hx]
    refine fo_S_c 14 (fun v _ => ?_)
    unfold fo_f
    rw [fo_d_skip t]
  · rw [fo_d_skip t] at hd
    exact h.2 x y hx hy hd
theorem fo_J_join {n : Nat} {c : Nat → Nat} (h : fo_J U W T n c) (t : T n = true) (hU : U n < 14) (hW : W n < 14) (ne : c (U n) ≠ c (W n)) : fo_J U W T (n + 1) (fo_c c (c (U n)) (c (W n))) := by
  constructor
  · intro x hx
    by_cases m : c x = c (U n) ∨ c x = c (W n)
    · have e : fo_c c (c (U n)) (c (W n)) x = c (U n) := by
        unfold fo_c
        rcases m with m | m
        · rw [m]; exact if_neg ne
        · rw [if_pos m]
      rw [e]
      have h1 : fo_S (fo_f U W T (n + 1) (fo_c c (c (U n)) (c (W n))) (c (U n))) 14 = fo_S (fun v => fo_f U W T n c (c (U n)) v + fo_f U W T n c (c (W n)) v - (if v = U n then 1 else 0) - (if v = W n then 1 else 0)) 14 := by
        refine fo_S_c 14 (fun v _ => ?_)
        unfold fo_f fo_c
        rw [fo_d_add t]
        by_cases c1 : c v = c (W n)
        · have c2 : ¬ c v = c (U n) := fun z => ne (z.symm.trans c1)
          have c3 : ¬ U n = v := fun z => c2 (by rw [z])
          have c3' : ¬ v = U n := fun z => c3 z.symm
          rw [if_pos c1, if_pos rfl, if_neg c2, if_pos c1, if_neg c3, if_neg c3']
          by_cases c4 : v = W n
          · rw [if_pos c4, if_pos c4.symm]; omega
          · rw [if_neg c4, if_neg (show ¬ W n = v from fun z => c4 z.symm)]; omega
        · have c3 : ¬ W n = v := fun z => c1 (by rw [z])
          have c3' : ¬ v = W n := fun z => c3 z.symm
          rw [if_neg c1, if_neg c1, if_neg c3, if_neg c3']
          by_cases c2 : c v = c (U n)
          · rw [if_pos c2, if_pos c2]
            by_cases c4 : v = U n
            · rw [if_pos c4, if_pos c4.symm]; omega
            · rw [if_neg c4, if_neg (show ¬ U n = v from fun z => c4 z.symm)]; omega
          · have c4 : ¬ v = U n := fun z => c2 (by rw [z])
            rw [if_neg c2, if_neg c2, if_neg c4]
            rfl
      rw [h1, fo_S_lin, h.1 _ hU, h.1 _ hW, fo_S_one 14 hU, fo_S_one 14 hW]
      rfl
    · have m1 : ¬ c x = c (U n) := fun z => m (Or.inl z)
      have m2 : ¬ c x = c (W n) := fun z => m (Or.inr z)
      have e : fo_c c (c (U n)) (c (W n)) x = c x := by unfold fo_c; exact if_neg m2
      rw [e, ← h.1 x hx]
      refine fo_S_c 14 (fun v _ => ?_)
      unfold fo_f fo_c
      by_cases c1 : c v = c (W n)
      · rw [if_pos c1, if_neg (fun z => m1 z.symm), if_neg (fun z => m2 (z.symm.trans c1))]
      · rw [if_neg c1]
        by_cases c2 : c v = c x
        · have c3 : ¬ U n = v := fun z => m1 (by rw [← c2, z])
          have c4 : ¬ W n = v := fun z => m2 (by rw [← c2, z])
          rw [if_pos c2, if_pos c2, fo_d_add t, if_neg c3, if_neg c4]
          omega
        · rw [if_neg c2, if_neg c2]
  · intro x y hx hy hd e
    rw [fo_d_add t] at hd
    have d0 : fo_d U W T x n = 0 := by omega
    have u0 : ¬ U n = x := fun z => by rw [if_pos z] at hd; omega
    have w0 : ¬ W n = x := fun z => by rw [if_pos z] at hd; omega
    have u1 : ¬ c (U n) = c x := fun z => u0 (h.2 x _ hx hU d0 z)
    have w1 : ¬ c (W n) = c x := fun z => w0 (h.2 x _ hx hW d0 z)
    unfold fo_c at e
    rw [if_neg (show ¬ c x = c (W n) from fun z => w1 z.symm)] at e
    by_cases cy : c y = c (W n)
    · rw [if_pos cy] at e; exact absurd e u1
    · rw [if_neg cy] at e; exact h.2 x y hx hy d0 e
theorem fo_build (hU : ∀ e, e < 16 → T e = true → U e < 14) (hW : ∀ e, e < 16 → T e = true → W e < 14) (a : fo_A2 U W T) : ∀ n, n ≤ 16 → ∃ c, fo_I U W T n c ∧ fo_J U W T n c := by
  intro n
  induction n with
  | zero => intro _; exact ⟨_, fo_I_0, fo_J_0⟩
  | succ n ih =>
    intro hn
    obtain ⟨c, i, j⟩ := ih (by omega)
    rcases Bool.eq_false_or_eq_true (T n) with t | t
    · have u := hU n (by omega) t
      have w := hW n (by omega) t
      have ne : c (U n) ≠ c (W n) := fun e => fo_I_yes i (by omega) t u w e a
      exact ⟨_, fo_I_join i t (by omega) u w, fo_J_join j t u w ne⟩
    · exact ⟨c, fo_I_skip i t, fo_J_skip j t⟩
/-- a graph with an edge and no cycle has a leaf -/
theorem fo_has (hU : ∀ e, e < 16 → T e = true → U e < 14) (hW : ∀ e, e < 16 → T e = true → W e < 14) (a : fo_A2 U W T) {e : Nat} (he : e < 16) (te : T e = true) :
    ∃ f, f < 16 ∧ T f = true ∧ (fo_d U W T (U f) 16 = 1 ∨ fo_d U W T (W f) 16 = 1) := by
  obtain ⟨c, _, j⟩ := fo_build hU hW a 16 (Nat.le_refl _)
  have dx : 1 ≤ fo_d U W T (U e) 16 := Nat.le_trans (fo_t_U te) (fo_d_ge 16 e he)
  have hs := j.1 (U e) (hU e he te)
  by_cases lf : ∃ v, v < 14 ∧ fo_d U W T v 16 = 1
  · obtain ⟨v, _, hv⟩ := lf
    obtain ⟨f, f1, f2, f3⟩ := fo_d_ex (U := U) (W := W) (T := T) (v := v) 16 (by omega)
    refine ⟨f, f1, f2, ?_⟩
    rcases f3 with z | z
    · left; rw [z]; exact hv
    · right; rw [z]; exact hv
  · exfalso
    have := fo_S_le (f := fo_f U W T 16 c (c (U e))) 14 (fun v hv => by
      unfold fo_f
      by_cases cv : c v = c (U e)
      · rw [if_pos cv]
        have d0 : fo_d U W T v 16 ≠ 0 := fun z => by
          have := j.2 v (U e) hv (hU e he te) z cv.symm
          rw [this] at dx
          omega
        have d1 : fo_d U W T v 16 ≠ 1 := fun z => lf ⟨v, hv, z⟩
        omega
      · rw [if_neg cv]; exact Int.le_refl _)
    omega
/-- what is left when no leaf is left: nothing if and only if no join failed -/
theorem fo_fin (hU : ∀ e, e < 16 → T e = true → U e < 14) (hW : ∀ e, e < 16 → T e = true → W e < 14) (sub : ∀ e, e < 16 → R e = true → T e = true) (back : fo_A U W R → fo_A U W T)
    (st : ∀ f, f < 16 → R f = true → ¬ (fo_d U W R (U f) 16 = 1 ∨ fo_d U W R (W f) 16 = 1)) : (∀ e, e < 16 → R e = false) ↔ fo_A2 U W T := by
  constructor
  · intro h; exact fo_A_A2 (back (fo_A_none h))
  · intro a e he
    rcases Bool.eq_false_or_eq_true (R e) with t | t
    · obtain ⟨f, f1, f2, f3⟩ := fo_has (T := R) (fun e he h => hU e he (sub e he h)) (fun e he h => hW e he (sub e he h)) (fo_A2_sub sub a) he t
      exact absurd f3 (st f f1 f2)
    · exact t
end FOM
end
section
section MSM
/-! messages in one list against queues, counts of holders and of carriers -/
abbrev MG : Type := Nat × Int32 × Int32
def ms_q (e : Nat) : List MG → List MG
  | [] => []
  | m :: S => if m.1 = e then m :: ms_q e S else ms_q e S
def ms_r (e : Nat) : List MG → List MG
  | [] => []
  | m :: S => if m.1 = e then S else m :: ms_r e S
def ms_f (e i : Nat) : Nat → Nat → List MG → Option Nat
  | _, _, [] => none
  | j, n, m :: S => if m.1 = e then (if n = i then some j else ms_f e i (j + 1) (n + 1) S) else ms_f e i (j + 1) n S
def ms_c (x : Int32) : List MG → Nat
  | [] => 0
  | m :: S => (if m.2.1 = 2 ∧ m.2.2 = x then 1 else 0) + ms_c x S
theorem ms_q_app (e : Nat) (m : MG) : ∀ L, ms_q e (L ++ [m]) = if m.1 = e then ms_q e L ++ [m] else ms_q e L := by
  intro L
  induction L with
  | nil => show ms_q e [m] = _; rw [ms_q, ms_q]; split <;> rfl
  | cons a S ih =>
    show ms_q e (a :: (S ++ [m])) = _
    rw [ms_q, ms_q, ih]
    by_cases h : a.1 = e
    · rw [if_pos h, if_pos h]; split <;> rfl
    · rw [if_neg h, if_neg h]
theorem ms_c_app (x : Int32) (m : MG) : ∀ L, ms_c x (L ++ [m]) = ms_c x L + (if m.2.1 = 2 ∧ m.2.2 = x then 1 else 0) := by
  intro L
  induction L with
  | nil => show (if m.2.1 = 2 ∧ m.2.2 = x then 1 else 0) + 0 = 0 + _; rw [Nat.add_comm]
  | cons a S ih => show ms_c x (a :: (S ++ [m])) = _; rw [ms_c, ms_c, ih]; omega
theorem ms_r_mem {e : Nat} {m : MG} : ∀ L, m ∈ ms_r e L → m ∈ L := by
  intro L
  induction L with
  | nil => intro h; exact h
  | cons a S ih =>
    intro h
    rw [ms_r] at h
    by_cases z : a.1 = e
    · rw [if_pos z] at h; exact List.mem_cons_of_mem _ h
    · rw [if_neg z] at h
      rcases List.mem_cons.mp h with h | h
      · rw [h]; exact List.mem_cons_self
      · exact List.mem_cons_of_mem _ (ih h)
theorem ms_q_mem {e : Nat} {m : MG} : ∀ L, m ∈ ms_q e L → m ∈ L ∧ m.1 = e := by
  intro L
  induction L with
  | nil => intro h; cases h
  | cons a S ih =>
    intro h
    rw [ms_q] at h
    by_cases z : a.1 = e
    · rw [if_pos z] at h
      rcases List.mem_cons.mp h with h | h
      · rw [h]; exact ⟨List.mem_cons_self, z⟩
      · exact ⟨List.mem_cons_of_mem _ (ih h).1, (ih h).2⟩
    · rw [if_neg z] at h
      exact ⟨List.mem_cons_of_mem _ (ih h).1, (ih h).2⟩
theorem ms_r_q {e : Nat} : ∀ L, ms_q e (ms_r e L) = (ms_q e L).tail := by
  intro L
  induction L with
  | nil => rfl
  | cons a S ih =>
    rw [ms_r, ms_q]
    by_cases z : a.1 = e
    · rw [if_pos z, if_pos z]; rfl
    · rw [if_neg z, if_neg z, ms_q, if_neg z, ih]
theorem ms_r_qn {e f : Nat} (h : f ≠ e) : ∀ L, ms_q f (ms_r e L) = ms_q f L := by
  intro L
  induction L with
  | nil => rfl
  | cons a S ih =>
    rw [ms_r, ms_q]
    by_cases z : a.1 = e
    · rw [if_pos z, if_neg (fun y => h (y.symm.trans z))]
    · rw [if_neg z, ms_q, ih]
theorem ms_r_c {e : Nat} {m : MG} {Q : List MG} (x : Int32) : ∀ L, ms_q e L = m :: Q → ms_c x L = ms_c x (ms_r e L) + (if m.2.1 = 2 ∧ m.2.2 = x then 1 else 0) := by
  intro L
  induction L with
  | nil => intro h; cases h
  | cons a S ih =>
    intro h
    rw [ms_q] at h
    rw [ms_r]
    by_cases z : a.1 = e
    · rw [if_pos z] at h ⊢
      have : a = m := (List.cons.inj h).1
      rw [ms_c, this]; omega
    · rw [if_neg z] at h ⊢
      rw [ms_c, ms_c, ih h]; omega
theorem ms_r_len {e : Nat} {m : MG} {Q : List MG} : ∀ L, ms_q e L = m :: Q → L.length = (ms_r e L).length + 1 := by
  intro L
  induction L with
  | nil => intro h; cases h
  | cons a S ih =>
    intro h
    rw [ms_q] at h
    rw [ms_r]
    by_cases z : a.1 = e
    · rw [if_pos z]; rfl
    · rw [if_neg z] at h ⊢
      rw [List.length_cons, List.length_cons, ih h]
theorem ms_c_pos {x : Int32} : ∀ L, 0 < ms_c x L → ∃ m, m ∈ L ∧ m.2.1 = 2 ∧ m.2.2 = x := by
  intro L
  induction L with
  | nil => intro h; rw [ms_c] at h; omega
  | cons a S ih =>
    intro h
    rw [ms_c] at h
    by_cases z : a.2.1 = 2 ∧ a.2.2 = x
    · exact ⟨a, List.mem_cons_self, z⟩
    · rw [if_neg z] at h
      obtain ⟨m, m1, m2⟩ := ih (by omega)
      exact ⟨m, List.mem_cons_of_mem _ m1, m2⟩
theorem ms_c_of {x : Int32} {m : MG} (h1 : m.2.1 = 2) (h2 : m.2.2 = x) : ∀ L, m ∈ L → 0 < ms_c x L := by
  intro L
  induction L with
  | nil => intro h; cases h
  | cons a S ih =>
    intro h
    rw [ms_c]
    rcases List.mem_cons.mp h with h | h
    · rw [← h, if_pos ⟨h1, h2⟩]; omega
    · have := ih h; omega
theorem ms_q_nil {e : Nat} : ∀ L : List MG, (∀ m, m ∈ L → m.1 ≠ e) → ms_q e L = [] := by
  intro L
  induction L with
  | nil => intro _; rfl
  | cons a S ih =>
    intro h
    rw [ms_q, if_neg (h a List.mem_cons_self)]
    exact ih (fun m hm => h m (List.mem_cons_of_mem _ hm))
/-! the places of messages -/
theorem ms_f_spec (e i : Nat) : ∀ (S : List MG) (j n : Nat), n ≤ i →
    (ms_f e i j n S = none ∧ (ms_q e S)[i - n]? = none) ∨ (∃ k m, ms_f e i j n S = some (j + k) ∧ S[k]? = some m ∧ (ms_q e S)[i - n]? = some m) := by
  intro S
  induction S with
  | nil => intro j n h; left; exact ⟨rfl, rfl⟩
  | cons a S ih =>
    intro j n h
    rw [ms_f, ms_q]
    by_cases z : a.1 = e
    · rw [if_pos z, if_pos z]
      by_cases y : n = i
      · right
        rw [if_pos y, y, Nat.sub_self]
        exact ⟨0, a, rfl, rfl, rfl⟩
      · rw [if_neg y]
        have e1 : i - n = (i - (n + 1)) + 1 := by omega
        rw [e1, List.getElem?_cons_succ]
        rcases ih (j + 1) (n + 1) (by omega) with ⟨h1, h2⟩ | ⟨k, m, h1, h2, h3⟩
        · exact Or.inl ⟨h1, h2⟩
        · refine Or.inr ⟨k + 1, m, ?_, ?_, h3⟩
          · rw [h1]; congr 1; omega
          · rw [List.getElem?_cons_succ]; exact h2
    · rw [if_neg z, if_neg z]
      rcases ih (j + 1) n h with ⟨h1, h2⟩ | ⟨k, m, h1, h2, h3⟩
      · exact Or.inl ⟨h1, h2⟩
      · refine Or.inr ⟨k + 1, m, ?_, ?_, h3⟩
        · rw [h1]; congr 1; omega
        · rw [List.getElem?_cons_succ]; exact h2
theorem ms_f_er (e : Nat) : ∀ (S : List MG) (j k : Nat), ms_f e 0 j 0 S = some (j + k) → S.eraseIdx k = ms_r e S := by
  intro S
  induction S with
  | nil => intro j k h; cases h
  | cons a S ih =>
    intro j k h
    rw [ms_f] at h
    rw [ms_r]
    by_cases z : a.1 = e
    · rw [if_pos z, if_pos rfl] at h
      have : k = 0 := by have := Option.some.inj h; omega
      rw [if_pos z, this]; rfl
    · rw [if_neg z] at h ⊢
      rcases ms_f_spec e 0 S (j + 1) 0 (Nat.le_refl _) with ⟨h1, _⟩ | ⟨k', m, h1, _, _⟩
      · rw [h1] at h; cases h
      · rw [h1] at h
        have : k = k' + 1 := by have := Option.some.inj h; omega
        rw [this, List.eraseIdx_cons_succ, ih (j + 1) k' h1]
/-- the arrays hold the list -/
def ms_A (L : List MG) (mT mK mV : Nat → Int32) : Prop := ∀ j m, L[j]? = some m → mT j = nI m.1 ∧ mK j = m.2.1 ∧ mV j = m.2.2
theorem ms_A_app {L : List MG} {mT mK mV : Nat → Int32} (h : ms_A L mT mK mV) (m : MG) : ms_A (L ++ [m]) (upd mT L.length (nI m.1)) (upd mK L.length m.2.1) (upd mV L.length m.2.2) := by
  intro j x hx
  rcases Nat.lt_trichotomy j L.length with l | l | l
  · rw [List.getElem?_append_left l] at hx
    rw [pk_un (by omega), pk_un (by omega), pk_un (by omega)]
    exact h j x hx
  · rw [l] at hx ⊢
    rw [List.getElem?_append_right (Nat.le_refl _), Nat.sub_self] at hx
    have : m = x := Option.some.inj hx
    rw [← this, pk_us, pk_us, pk_us]
    exact ⟨rfl, rfl, rfl⟩
  · rw [List.getElem?_eq_none (by rw [List.length_append]; show L.length + 1 ≤ j; omega)] at hx
    cases hx
theorem ms_sum_aux (L : List MG) : ∃ s : Nat → Nat, s 0 = 0 ∧ ∀ n, s (n + 1) = s n + (ms_q n L).length := by
  refine ⟨fun n => Nat.rec 0 (fun k r => r + (ms_q k L).length) n, rfl, fun n => rfl⟩
def ms_s (L : List MG) : Nat → Nat
  | 0 => 0
  | n + 1 => ms_s L n + (ms_q n L).length
theorem ms_s_cons (m : MG) (S : List MG) : ∀ n, ms_s (m :: S) n = ms_s S n + (if m.1 < n then 1 else 0) := by
  intro n
  induction n with
  | zero => rfl
  | succ n ih =>
    rw [ms_s, ms_s, ih, ms_q]
    by_cases z : m.1 = n
    · rw [if_pos z, if_neg (by omega), if_pos (by omega), List.length_cons]; omega
    · rw [if_neg z]
      by_cases y : m.1 < n
      · rw [if_pos y, if_pos (by omega)]; omega
      · rw [if_neg y, if_neg (by omega)]; omega
theorem ms_s_len (n : Nat) : ∀ L : List MG, (∀ m, m ∈ L → m.1 < n) → ms_s L n = L.length := by
  intro L
  induction L with
  | nil =>
    intro _
    have : ∀ n, ms_s [] n = 0 := by
      intro n
      induction n with
      | zero => rfl
      | succ n ih => rw [ms_s, ih]; rfl
    exact this n
  | cons a S ih =>
    intro h
    rw [ms_s_cons, ih (fun m hm => h m (List.mem_cons_of_mem _ hm)), if_pos (h a List.mem_cons_self)]
    rfl
theorem ms_s_le {L : List MG} {c : Nat} (h : ∀ e, (ms_q e L).length ≤ c) : ∀ n, ms_s L n ≤ c * n := by
  intro n
  induction n with
  | zero => exact Nat.le_refl _
  | succ n ih => rw [ms_s, Nat.mul_succ]; have := h n; omega
theorem ms_s_lt {L : List MG} {c : Nat} (h : ∀ e, (ms_q e L).length ≤ c) {f : Nat} (hf : (ms_q f L).length < c) : ∀ n, f < n → ms_s L n < c * n := by
  intro n
  induction n with
  | zero => intro h; omega
  | succ n ih =>
    intro hn
    rw [ms_s, Nat.mul_succ]
    by_cases z : f = n
    · have := ms_s_le h n; rw [← z]; rw [← z] at this; omega
    · have := ih (by omega); have := h n; omega
theorem ms_room {L : List MG} (h1 : ∀ m, m ∈ L → m.1 < 16) (h : ∀ e, (ms_q e L).length ≤ 4) {f : Nat} (hf : (ms_q f L).length < 4) (hf2 : f < 16) : L.length < 64 := by
  rw [← ms_s_len 16 L h1]
  exact ms_s_lt h hf 16 hf2
theorem ms_len {L : List MG} (h1 : ∀ m, m ∈ L → m.1 < 16) (h : ∀ e, (ms_q e L).length ≤ 4) : L.length ≤ 64 := by
  rw [← ms_s_len 16 L h1]
  exact ms_s_le h 16
/-! how many of the first n variables hold x -/
def hn_c (hd : Nat → Int32) (x : Int32) : Nat → Nat
  | 0 => 0
  | n + 1 => hn_c hd x n + (if hd n = x then 1 else 0)
theorem hn_ext {h g : Nat → Int32} {x : Int32} : ∀ n, (∀ i, i < n → h i = g i) → hn_c h x n = hn_c g x n := by
  intro n
  induction n with
  | zero => intro _; rfl
  | succ n ih => intro e; rw [hn_c, hn_c, ih (fun i hi => e i (by omega)), e n (by omega)]
theorem hn_upd {hd : Nat → Int32} {x y : Int32} {i : Nat} : ∀ n, i < n → hn_c (upd hd i y) x n + (if hd i = x then 1 else 0) = hn_c hd x n + (if y = x then 1 else 0) := by
  intro n
  induction n with
  | zero => intro h; omega
  | succ n ih =>
    intro h
    rw [hn_c, hn_c]
    by_cases z : i = n
    · rw [z, pk_us, hn_ext (h := upd hd n y) (g := hd) n (fun j hj => pk_un (by omega))]; omega
    · have := ih (by omega)
      rw [pk_un (f := hd) (x := y) (show n ≠ i from fun q => z q.symm)]
      omega
theorem hn_pos {hd : Nat → Int32} {x : Int32} {i : Nat} : ∀ n, i < n → hd i = x → 0 < hn_c hd x n := by
  intro n
  induction n with
  | zero => intro h; omega
  | succ n ih =>
    intro h e
    rw [hn_c]
    by_cases z : i = n
    · rw [← z, if_pos e]; omega
    · have := ih (by omega) e; omega
theorem hn_two {hd : Nat → Int32} {x : Int32} {i j : Nat} (n : Nat) (hi : i < n) (hj : j < n) (ne : i ≠ j) (ei : hd i = x) (ej : hd j = x) : 2 ≤ hn_c hd x n := by
  obtain ⟨y, hy⟩ : ∃ y : Int32, y ≠ x := by
    by_cases z : x = 0
    · exact ⟨1, by rw [z]; decide⟩
    · exact ⟨0, fun q => z q.symm⟩
  have h1 := hn_upd (hd := hd) (x := x) (y := y) n hi
  rw [if_pos ei, if_neg hy] at h1
  have h2 := hn_pos (hd := upd hd i y) (x := x) n hj (by rw [pk_un (fun q => ne q.symm)]; exact ej)
  omega
theorem hn_zero {hd : Nat → Int32} {x : Int32} : ∀ n, (∀ i, i < n → hd i ≠ x) → hn_c hd x n = 0 := by
  intro n
  induction n with
  | zero => intro _; rfl
  | succ n ih => intro h; rw [hn_c, ih (fun i hi => h i (by omega)), if_neg (h n (by omega))]
theorem hn_ex {hd : Nat → Int32} {x : Int32} : ∀ n, 0 < hn_c hd x n → ∃ i, i < n ∧ hd i = x := by
  intro n
  induction n with
  | zero => intro h; rw [hn_c] at h; omega
  | succ n ih =>
    intro h
    rw [hn_c] at h
    by_cases z : hd n = x
    · exact ⟨n, by omega, z⟩
    · rw [if_neg z] at h
      obtain ⟨i, i1, i2⟩ := ih (by omega)
      exact ⟨i, by omega, i2⟩
end MSM
end
section
section REM
/-! the ends of channels: where each is, once -/
def pr (e : Nat) : Nat := if e % 2 = 0 then e + 1 else e - 1
theorem pr_pr (e : Nat) : pr (pr e) = e := by unfold pr; split <;> split <;> omega
theorem pr_lt {e E : Nat} (h : e < E) (h2 : E % 2 = 0) : pr e < E := by unfold pr; split <;> omega
theorem pr_ne (e : Nat) : pr e ≠ e := by unfold pr; split <;> omega
theorem pr_0 (c : Nat) : pr (2 * c) = 2 * c + 1 := by unfold pr; rw [if_pos (by omega)]
theorem pr_1 (c : Nat) : pr (2 * c + 1) = 2 * c := by unfold pr; rw [if_neg (by omega)]; omega
theorem re_n1 {e : Nat} (h : e < 2 ^ 31) : ¬ (-1 : Int32) = nI e := by
  intro z
  have := nI_pos (n := e) h
  rw [← z] at this
  exact this (by decide)
theorem re_inj {a b : Nat} (ha : a < 16) (hb : b < 16) (h : nI a = nI b) : a = b := (nI_eq (by omega) (by omega)).mp h
def re_1 (E : Nat) (hd es ew : Nat → Int32) : Prop := ∀ i, i < 36 → hd i = -1 ∨ ∃ e, e < E ∧ hd i = nI e ∧ es e = 1 ∧ ew e = nI (i / 6)
def re_2 (E : Nat) (L : List MG) (es ew : Nat → Int32) : Prop := ∀ m, m ∈ L → m.1 < E ∧ (m.2.1 = 3 → m.2.2 = 0 ∨ m.2.2 = 1) ∧ (m.2.1 = 2 → ∃ e, e < E ∧ m.2.2 = nI e ∧ es e = 2 ∧ ew e = nI m.1)
def re_3 (E : Nat) (hd : Nat → Int32) (L : List MG) (es ew : Nat → Int32) : Prop := ∀ e, e < E →
  (es e = 1 ∧ hn_c hd (nI e) 36 = 1 ∧ ms_c (nI e) L = 0) ∨ (es e = 2 ∧ hn_c hd (nI e) 36 = 0 ∧ ms_c (nI e) L = 1) ∨
  (es e = 3 ∧ hn_c hd (nI e) 36 = 0 ∧ ms_c (nI e) L = 0 ∧ ew e = -1 ∧ ms_q e L = [] ∧ (es (pr e) = 1 ∨ es (pr e) = 2)) ∨
  (es e = 0 ∧ hn_c hd (nI e) 36 = 0 ∧ ms_c (nI e) L = 0 ∧ ew e = -1 ∧ ms_q e L = [] ∧ es (pr e) = 0)
def re_R (E : Nat) (hd : Nat → Int32) (L : List MG) (es ew : Nat → Int32) : Prop := (E ≤ 16 ∧ E % 2 = 0) ∧ re_1 E hd es ew ∧ re_2 E L es ew ∧ re_3 E hd L es ew
variable {E : Nat} {hd es ew : Nat → Int32} {L : List MG}
theorem re_init (h1 : E ≤ 16) (h2 : E % 2 = 0) (hh : ∀ i, i < 36 → hd i = -1) (he : ∀ e, e < E → es e = 0 ∧ ew e = -1) : re_R E hd [] es ew := by
  refine ⟨⟨h1, h2⟩, fun i hi => Or.inl (hh i hi), fun m hm => (nomatch hm), fun e hE => Or.inr (Or.inr (Or.inr ⟨(he e hE).1, ?_, rfl, (he e hE).2, rfl, (he _ (pr_lt hE h2)).1⟩))⟩
  exact hn_zero 36 (fun i hi => by rw [hh i hi]; exact re_n1 (by omega))
theorem re_of_hd (R : re_R E hd L es ew) {i e : Nat} (hi : i < 36) (he : hd i = nI e) (h16 : e < 16) : e < E ∧ es e = 1 ∧ ew e = nI (i / 6) ∧ hn_c hd (nI e) 36 = 1 ∧ ms_c (nI e) L = 0 ∧ ∀ j, j < 36 → hd j = nI e → j = i := by
  obtain ⟨⟨e1, e2⟩, r1, r2, r3⟩ := R
  rcases r1 i hi with z | ⟨f, f1, f2, f3, f4⟩
  · exact absurd (z.symm.trans he) (re_n1 (by omega))
  · have : f = e := re_inj (by omega) h16 (f2.symm.trans he)
    subst this
    have h3 : hn_c hd (nI f) 36 = 1 ∧ ms_c (nI f) L = 0 := by
      rcases r3 f f1 with h | h | h | h
      · exact h.2
      · exact absurd (f3.symm.trans h.1) (by decide)
      · exact absurd (f3.symm.trans h.1) (by decide)
      · exact absurd (f3.symm.trans h.1) (by decide)
    refine ⟨f1, f3, f4, h3.1, h3.2, fun j hj ej => ?_⟩
    by_cases z : j = i
    · exact z
    · have := hn_two 36 hj hi z ej he
      omega
theorem re_hd (R : re_R E hd L es ew) {i : Nat} (hi : i < 36) : hd i = -1 ∨ ∃ e, e < E ∧ hd i = nI e := by
  rcases R.2.1 i hi with z | ⟨e, e1, e2, _⟩
  · exact Or.inl z
  · exact Or.inr ⟨e, e1, e2⟩
theorem re_peer (R : re_R E hd L es ew) {e : Nat} (he : e < E) (h : es e = 1 ∨ es e = 2) : es (pr e) = 1 ∨ es (pr e) = 2 ∨ es (pr e) = 3 := by
  obtain ⟨⟨e1, e2⟩, r1, r2, r3⟩ := R
  rcases r3 (pr e) (pr_lt he e2) with q | q | q | q
  · exact Or.inl q.1
  · exact Or.inr (Or.inl q.1)
  · exact Or.inr (Or.inr q.1)
  · have := q.2.2.2.2.2
    rw [pr_pr] at this
    rw [this] at h
    rcases h with h | h <;> exact absurd h (by decide)
/-- alive or not: by the state, by the counts -/
theorem re_alive (R : re_R E hd L es ew) {e : Nat} (he : e < E) : ((es e = 1 ∨ es e = 2) ∧ (0 < hn_c hd (nI e) 36 ∨ 0 < ms_c (nI e) L)) ∨ ((es e = 3 ∨ es e = 0) ∧ hn_c hd (nI e) 36 = 0 ∧ ms_c (nI e) L = 0) := by
  rcases R.2.2.2 e he with q | q | q | q
  · exact Or.inl ⟨Or.inl q.1, Or.inl (by omega)⟩
  · exact Or.inl ⟨Or.inr q.1, Or.inr (by omega)⟩
  · exact Or.inr ⟨Or.inl q.1, q.2.1, q.2.2.1⟩
  · exact Or.inr ⟨Or.inr q.1, q.2.1, q.2.2.1⟩
theorem re_dead (R : re_R E hd L es ew) {e : Nat} (he : E ≤ e) (h16 : e < 16) : hn_c hd (nI e) 36 = 0 ∧ ms_c (nI e) L = 0 := by
  constructor
  · refine hn_zero 36 (fun i hi z => ?_)
    have := (re_of_hd R hi z h16).1
    omega
  · rcases Nat.eq_zero_or_pos (ms_c (nI e) L) with z | z
    · exact z
    · obtain ⟨m, m1, m2, m3⟩ := ms_c_pos L z
      obtain ⟨_, _, h⟩ := R.2.2.1 m m1
      obtain ⟨f, f1, f2, _⟩ := h m2
      have := re_inj (show f < 16 by have := R.1.1; omega) h16 (f2.symm.trans m3)
      omega
theorem re_put (R : re_R E hd L es ew) {w : Nat} {k v : Int32} (hw : w < E) (hs : es w = 1 ∨ es w = 2) (hk : k ≠ 2) (hv : k = 3 → v = 0 ∨ v = 1) : re_R E hd (L ++ [(w, k, v)]) es ew := by
  obtain ⟨e12, r1, r2, r3⟩ := R
  refine ⟨e12, r1, fun m hm => ?_, fun e he => ?_⟩
  · rcases List.mem_append.mp hm with h | h
    · exact r2 m h
    · have : m = (w, k, v) := List.mem_singleton.mp h
      subst this
      exact ⟨hw, hv, fun z => absurd z hk⟩
  · have hc : ms_c (nI e) (L ++ [(w, k, v)]) = ms_c (nI e) L := by rw [ms_c_app, if_neg (fun z => hk z.1)]; rfl
    rw [hc]
    rcases r3 e he with h | h | h | h
    · exact Or.inl h
    · exact Or.inr (Or.inl h)
    · have ne : ¬ w = e := fun z => by rw [z, h.1] at hs; rcases hs with q | q <;> exact absurd q (by decide)
      have hq : ms_q e (L ++ [(w, k, v)]) = ms_q e L := by rw [ms_q_app]; exact if_neg ne
      rw [hq]; exact Or.inr (Or.inr (Or.inl h))
    · have ne : ¬ w = e := fun z => by rw [z, h.1] at hs; rcases hs with q | q <;> exact absurd q (by decide)
      have hq : ms_q e (L ++ [(w, k, v)]) = ms_q e L := by rw [ms_q_app]; exact if_neg ne
      rw [hq]; exact Or.inr (Or.inr (Or.inr h))
theorem re_qr {x : Nat} {e : Nat} (h : ms_q e L = []) : ms_q e (ms_r x L) = [] := by
  by_cases z : e = x
  · rw [z, ms_r_q, ← z, h]; rfl
  · rw [ms_r_qn z, h]
theorem re_get (R : re_R E hd L es ew) {x : Nat} {m : MG} {Q : List MG} (hq : ms_q x L = m :: Q) (hk : m.2.1 ≠ 2) : re_R E hd (ms_r x L) es ew := by
  obtain ⟨e12, r1, r2, r3⟩ := R
  refine ⟨e12, r1, fun m hm => r2 m (ms_r_mem L hm), fun e he => ?_⟩
  have hc : ms_c (nI e) (ms_r x L) = ms_c (nI e) L := by
    have := ms_r_c (nI e) L hq
    rw [if_neg (fun z => hk z.1)] at this
    exact this.symm
  rw [hc]
  rcases r3 e he with h | h | h | h
  · exact Or.inl h
  · exact Or.inr (Or.inl h)
  · exact Or.inr (Or.inr (Or.inl ⟨h.1, h.2.1, h.2.2.1, h.2.2.2.1, re_qr h.2.2.2.2.1, h.2.2.2.2.2⟩))
  · exact Or.inr (Or.inr (Or.inr ⟨h.1, h.2.1, h.2.2.1, h.2.2.2.1, re_qr h.2.2.2.2.1, h.2.2.2.2.2⟩))
/-- a state 1 or 2 set at e keeps what the others ask of their peers -/
theorem re_p12 {e f : Nat} {y : Int32} (hy : y = 1 ∨ y = 2) (h : es (pr f) = 1 ∨ es (pr f) = 2) : upd es e y (pr f) = 1 ∨ upd es e y (pr f) = 2 := by
  by_cases z : pr f = e
  · rw [z, pk_us]; exact hy
  · rw [pk_un z]; exact h
theorem re_p0 {e f : Nat} {y : Int32} (h : es (pr f) = 0) (he : es e ≠ 0) : upd es e y (pr f) = 0 := by
  by_cases z : pr f = e
  · rw [z] at h; exact absurd h he
  · rw [pk_un z]; exact h
theorem re_give (R : re_R E hd L es ew) {i e w : Nat} (hi : i < 36) (he : hd i = nI e) (h16 : e < 16) (hw : w < E) (hs : es w = 1 ∨ es w = 2) :
    re_R E (upd hd i (-1)) (L ++ [(w, 2, nI e)]) (upd es e 2) (upd ew e (nI w)) := by
  obtain ⟨f1, f2, f3, f4, f5, f6⟩ := re_of_hd R hi he h16
  obtain ⟨⟨e1, e2⟩, r1, r2, r3⟩ := R
  refine ⟨⟨e1, e2⟩, fun j hj => ?_, fun m hm => ?_, fun f hf => ?_⟩
  · by_cases z : j = i
    · left; rw [z, pk_us]
    · rw [pk_un z]
      rcases r1 j hj with y | ⟨g, g1, g2, g3, g4⟩
      · exact Or.inl y
      · have ne : g ≠ e := fun y => z (f6 j hj (by rw [g2, y]))
        exact Or.inr ⟨g, g1, g2, by rw [pk_un ne]; exact g3, by rw [pk_un ne]; exact g4⟩
  · rcases List.mem_append.mp hm with h | h
    · obtain ⟨a1, a2, a3⟩ := r2 m h
      refine ⟨a1, a2, fun k2 => ?_⟩
      obtain ⟨g, g1, g2, g3, g4⟩ := a3 k2
      have ne : g ≠ e := fun y => by rw [y, f2] at g3; exact absurd g3 (by decide)
      exact ⟨g, g1, g2, by rw [pk_un ne]; exact g3, by rw [pk_un ne]; exact g4⟩
    · have : m = (w, 2, nI e) := List.mem_singleton.mp h
      subst this
      exact ⟨hw, fun z => absurd z (by decide : ¬ (2 : Int32) = 3), fun _ => ⟨e, f1, rfl, pk_us, pk_us⟩⟩
  · have hh := hn_upd (hd := hd) (x := nI f) (y := -1) 36 hi
    rw [if_neg (re_n1 (show f < 2 ^ 31 by omega))] at hh
    have hc := ms_c_app (nI f) (w, 2, nI e) L
    by_cases z : f = e
    · subst z
      rw [if_pos he] at hh
      rw [if_pos ⟨rfl, rfl⟩] at hc
      exact Or.inr (Or.inl ⟨pk_us, by omega, by omega⟩)
    · have nz : ¬ nI e = nI f := fun q => z (re_inj (by omega) h16 q.symm)
      rw [he, if_neg nz] at hh
      rw [if_neg (fun q => nz q.2)] at hc
      have hh : hn_c (upd hd i (-1)) (nI f) 36 = hn_c hd (nI f) 36 := by omega
      have hc : ms_c (nI f) (L ++ [(w, 2, nI e)]) = ms_c (nI f) L := by omega
      have hq : es f ≠ 1 → es f ≠ 2 → ms_q f (L ++ [(w, 2, nI e)]) = ms_q f L := fun n1 n2 => by
        rw [ms_q_app]
        exact if_neg (fun q => by
          have q : w = f := q
          rw [q] at hs
          rcases hs with s | s
          · exact n1 s
          · exact n2 s)
      rw [hh, hc, pk_un z, pk_un z]
      rcases r3 f hf with h | h | h | h
      · exact Or.inl h
      · exact Or.inr (Or.inl h)
      · rw [hq (by rw [h.1]; decide) (by rw [h.1]; decide)]
        exact Or.inr (Or.inr (Or.inl ⟨h.1, h.2.1, h.2.2.1, h.2.2.2.1, h.2.2.2.2.1, re_p12 (Or.inr rfl) h.2.2.2.2.2⟩))
      · rw [hq (by rw [h.1]; decide) (by rw [h.1]; decide)]
        exact Or.inr (Or.inr (Or.inr ⟨h.1, h.2.1, h.2.2.1, h.2.2.2.1, h.2.2.2.2.1, re_p0 h.2.2.2.2.2 (by rw [f2]; decide)⟩))
theorem re_of_ms (R : re_R E hd L es ew) {m : MG} (hm : m ∈ L) (hk : m.2.1 = 2) : ∃ e, e < E ∧ m.2.2 = nI e ∧ es e = 2 ∧ ew e = nI m.1 ∧ hn_c hd (nI e) 36 = 0 ∧ ms_c (nI e) L = 1 := by
  obtain ⟨⟨e1, e2⟩, r1, r2, r3⟩ := R
  obtain ⟨e, f1, f2, f3, f4⟩ := (r2 m hm).2.2 hk
  refine ⟨e, f1, f2, f3, f4, ?_⟩
  rcases r3 e f1 with h | h | h | h
  · exact absurd (f3.symm.trans h.1) (by decide)
  · exact h.2
  · exact absurd (f3.symm.trans h.1) (by decide)
  · exact absurd (f3.symm.trans h.1) (by decide)
theorem re_take (R : re_R E hd L es ew) {x i e : Nat} {m : MG} {Q : List MG} (hq : ms_q x L = m :: Q) (hk : m.2.1 = 2) (hv : m.2.2 = nI e) (h16 : e < 16) (hi : i < 36) (hn : hd i = -1) :
    re_R E (upd hd i (nI e)) (ms_r x L) (upd es e 1) (upd ew e (nI (i / 6))) := by
  have hm : m ∈ L := (ms_q_mem L (by rw [hq]; exact List.mem_cons_self)).1
  obtain ⟨e', f1, f2, f3, f4, f5, f6⟩ := re_of_ms R hm hk
  obtain ⟨⟨e1, e2⟩, r1, r2, r3⟩ := R
  have : e' = e := re_inj (by omega) h16 (f2.symm.trans hv)
  subst this
  have hce := ms_r_c (nI e') L hq
  rw [if_pos ⟨hk, hv⟩] at hce
  refine ⟨⟨e1, e2⟩, fun j hj => ?_, fun m' hm' => ?_, fun f hf => ?_⟩
  · by_cases z : j = i
    · right; rw [z, pk_us]; exact ⟨e', f1, rfl, pk_us, pk_us⟩
    · rw [pk_un z]
      rcases r1 j hj with y | ⟨g, g1, g2, g3, g4⟩
      · exact Or.inl y
      · have ne : g ≠ e' := fun y => by rw [y, f3] at g3; exact absurd g3 (by decide)
        exact Or.inr ⟨g, g1, g2, by rw [pk_un ne]; exact g3, by rw [pk_un ne]; exact g4⟩
  · obtain ⟨a1, a2, a3⟩ := r2 m' (ms_r_mem L hm')
    refine ⟨a1, a2, fun k2 => ?_⟩
    obtain ⟨g, g1, g2, g3, g4⟩ := a3 k2
    have ne : g ≠ e' := fun y => by
      have := ms_c_of (x := nI e') k2 (by rw [g2, y]) (ms_r x L) hm'
      omega
    exact ⟨g, g1, g2, by rw [pk_un ne]; exact g3, by rw [pk_un ne]; exact g4⟩
  · have hh := hn_upd (hd := hd) (x := nI f) (y := nI e') 36 hi
    rw [hn, if_neg (re_n1 (show f < 2 ^ 31 by omega))] at hh
    have hc := ms_r_c (nI f) L hq
    by_cases z : f = e'
    · subst z
      rw [if_pos rfl] at hh
      exact Or.inl ⟨pk_us, by omega, by omega⟩
    · have nz : ¬ nI e' = nI f := fun q => z (re_inj (by omega) h16 q.symm)
      rw [if_neg nz] at hh
      rw [if_neg (fun q => nz (hv.symm.trans q.2))] at hc
      have hh : hn_c (upd hd i (nI e')) (nI f) 36 = hn_c hd (nI f) 36 := by omega
      have hc : ms_c (nI f) (ms_r x L) = ms_c (nI f) L := by omega
      rw [hh, hc, pk_un z, pk_un z]
      rcases r3 f hf with h | h | h | h
      · exact Or.inl h
      · exact Or.inr (Or.inl h)
      · exact Or.inr (Or.inr (Or.inl ⟨h.1, h.2.1, h.2.2.1, h.2.2.2.1, re_qr h.2.2.2.2.1, re_p12 (Or.inl rfl) h.2.2.2.2.2⟩))
      · exact Or.inr (Or.inr (Or.inr ⟨h.1, h.2.1, h.2.2.1, h.2.2.2.1, re_qr h.2.2.2.2.1, re_p0 h.2.2.2.2.2 (by rw [f3]; decide)⟩))
theorem re_drop1 (R : re_R E hd L es ew) {i e : Nat} (hi : i < 36) (he : hd i = nI e) (h16 : e < 16) : ∀ j, j < 36 → upd hd i (-1) j = -1 ∨ ∃ g, g < E ∧ g ≠ e ∧ upd hd i (-1) j = nI g ∧ es g = 1 ∧ ew g = nI (j / 6) := by
  obtain ⟨f1, f2, f3, f4, f5, f6⟩ := re_of_hd R hi he h16
  intro j hj
  by_cases z : j = i
  · left; rw [z, pk_us]
  · rw [pk_un z]
    rcases R.2.1 j hj with y | ⟨g, g1, g2, g3, g4⟩
    · exact Or.inl y
    · exact Or.inr ⟨g, g1, fun y => z (f6 j hj (by rw [g2, y])), g2, g3, g4⟩
theorem re_drop2 (R : re_R E hd L es ew) {i e f : Nat} (hi : i < 36) (he : hd i = nI e) (h16 : e < 16) (hf : f < E) (hne : f ≠ e) : hn_c (upd hd i (-1)) (nI f) 36 = hn_c hd (nI f) 36 := by
  have := R.1.1
  have hh := hn_upd (hd := hd) (x := nI f) (y := -1) 36 hi
  rw [if_neg (re_n1 (show f < 2 ^ 31 by omega)), he, if_neg (fun q => hne (re_inj (by omega) h16 q.symm))] at hh
  omega
theorem re_drop3 (R : re_R E hd L es ew) {i e : Nat} (hi : i < 36) (he : hd i = nI e) (h16 : e < 16) : hn_c (upd hd i (-1)) (nI e) 36 = 0 := by
  obtain ⟨f1, f2, f3, f4, f5, f6⟩ := re_of_hd R hi he h16
  have hh := hn_upd (hd := hd) (x := nI e) (y := -1) 36 hi
  rw [if_neg (re_n1 (show e < 2 ^ 31 by omega)), if_pos he] at hh
  omega
theorem re_m2 (R : re_R E hd L es ew) {e : Nat} (h1 : es e ≠ 2) {es' ew' : Nat → Int32} (hs : ∀ g, g ≠ e → es g = 2 → es' g = 2) (hw : ∀ g, g ≠ e → es g = 2 → ew' g = ew g) : re_2 E L es' ew' := by
  intro m hm
  obtain ⟨a1, a2, a3⟩ := R.2.2.1 m hm
  refine ⟨a1, a2, fun k2 => ?_⟩
  obtain ⟨g, g1, g2, g3, g4⟩ := a3 k2
  have ne : g ≠ e := fun y => h1 (by rw [← y]; exact g3)
  exact ⟨g, g1, g2, hs g ne g3, by rw [hw g ne g3]; exact g4⟩
theorem re_close (R : re_R E hd L es ew) {i e : Nat} (hi : i < 36) (he : hd i = nI e) (h16 : e < 16) (hq : ms_q e L = []) (hp : ¬ es (pr e) = 3) : re_R E (upd hd i (-1)) L (upd es e 3) (upd ew e (-1)) := by
  obtain ⟨f1, f2, f3, f4, f5, f6⟩ := re_of_hd R hi he h16
  have d1 := re_drop1 R hi he h16
  refine ⟨R.1, fun j hj => ?_, ?_, fun f hf => ?_⟩
  · rcases d1 j hj with z | ⟨g, g1, gn, g2, g3, g4⟩
    · exact Or.inl z
    · exact Or.inr ⟨g, g1, g2, by rw [pk_un gn]; exact g3, by rw [pk_un gn]; exact g4⟩
  · exact re_m2 R (e := e) (by rw [f2]; decide) (fun g ne h => by rw [pk_un ne]; exact h) (fun g ne h => by rw [pk_un ne])
  · by_cases z : f = e
    · subst z
      have := re_peer R f1 (Or.inl f2)
      exact Or.inr (Or.inr (Or.inl ⟨pk_us, re_drop3 R hi he h16, f5, pk_us, hq, by
        rw [pk_un (pr_ne f)]
        rcases this with q | q | q
        · exact Or.inl q
        · exact Or.inr q
        · exact absurd q hp⟩))
    · rw [re_drop2 R hi he h16 hf z, pk_un z, pk_un z]
      rcases R.2.2.2 f hf with h | h | h | h
      · exact Or.inl h
      · exact Or.inr (Or.inl h)
      · refine Or.inr (Or.inr (Or.inl ⟨h.1, h.2.1, h.2.2.1, h.2.2.2.1, h.2.2.2.2.1, ?_⟩))
        have ne : pr f ≠ e := fun q => hp (by rw [← q, pr_pr]; exact h.1)
        rw [pk_un ne]; exact h.2.2.2.2.2
      · exact Or.inr (Or.inr (Or.inr ⟨h.1, h.2.1, h.2.2.1, h.2.2.2.1, h.2.2.2.2.1, re_p0 h.2.2.2.2.2 (by rw [f2]; decide)⟩))
theorem re_close2 (R : re_R E hd L es ew) {i e : Nat} (hi : i < 36) (he : hd i = nI e) (h16 : e < 16) (hq : ms_q e L = []) (hp : es (pr e) = 3) : re_R E (upd hd i (-1)) L (upd (upd (upd es e 3) e 0) (pr e) 0) (upd ew e (-1)) := by
  obtain ⟨f1, f2, f3, f4, f5, f6⟩ := re_of_hd R hi he h16
  have d1 := re_drop1 R hi he h16
  have hs : ∀ g, g ≠ e → g ≠ pr e → upd (upd (upd es e 3) e 0) (pr e) 0 g = es g := fun g n1 n2 => by rw [pk_un n2, pk_un n1, pk_un n1]
  have hse : upd (upd (upd es e 3) e 0) (pr e) 0 e = 0 := by rw [pk_un (fun q => pr_ne e q.symm), pk_us]
  refine ⟨R.1, fun j hj => ?_, ?_, fun f hf => ?_⟩
  · rcases d1 j hj with z | ⟨g, g1, gn, g2, g3, g4⟩
    · exact Or.inl z
    · have gp : g ≠ pr e := fun q => by rw [q, hp] at g3; exact absurd g3 (by decide)
      exact Or.inr ⟨g, g1, g2, by rw [hs g gn gp]; exact g3, by rw [pk_un gn]; exact g4⟩
  · refine re_m2 R (e := e) (by rw [f2]; decide) (fun g ne h => ?_) (fun g ne h => by rw [pk_un ne])
    have gp : g ≠ pr e := fun q => by rw [q, hp] at h; exact absurd h (by decide)
    rw [hs g ne gp]; exact h
  · by_cases z : f = e
    · subst z
      exact Or.inr (Or.inr (Or.inr ⟨hse, re_drop3 R hi he h16, f5, pk_us, hq, pk_us⟩))
    · rw [re_drop2 R hi he h16 hf z, pk_un z]
      by_cases y : f = pr e
      · subst y
        rcases R.2.2.2 _ hf with h | h | h | h
        · exact absurd (hp.symm.trans h.1) (by decide)
        · exact absurd (hp.symm.trans h.1) (by decide)
        · exact Or.inr (Or.inr (Or.inr ⟨pk_us, h.2.1, h.2.2.1, h.2.2.2.1, h.2.2.2.2.1, by rw [pr_pr]; exact hse⟩))
        · exact absurd (hp.symm.trans h.1) (by decide)
      · have n1 : pr f ≠ e := fun q => y (by rw [← q, pr_pr])
        have n2 : pr f ≠ pr e := fun q => z (by rw [← pr_pr f, q, pr_pr])
        rw [hs f z y, hs _ n1 n2]
        exact R.2.2.2 f hf
theorem re_open (R : re_R E hd L es ew) {i j c : Nat} (hi : i < 36) (hj : j < 36) (ne : i ≠ j) (ei : hd i = -1) (ej : hd j = -1) (hc : 2 * c + 1 < E) (h0 : es (2 * c) = 0) :
    re_R E (upd (upd hd i (nI (2 * c))) j (nI (2 * c + 1))) L (upd (upd es (2 * c) 1) (2 * c + 1) 1) (upd (upd ew (2 * c) (nI (i / 6))) (2 * c + 1) (nI (j / 6))) := by
  have h16 := R.1.1
  have z0 : hn_c hd (nI (2 * c)) 36 = 0 ∧ ms_c (nI (2 * c)) L = 0 ∧ es (2 * c + 1) = 0 := by
    rcases R.2.2.2 (2 * c) (by omega) with h | h | h | h
    · exact absurd (h0.symm.trans h.1) (by decide)
    · exact absurd (h0.symm.trans h.1) (by decide)
    · exact absurd (h0.symm.trans h.1) (by decide)
    · exact ⟨h.2.1, h.2.2.1, by have := h.2.2.2.2.2; rw [pr_0] at this; exact this⟩
  have z1 : hn_c hd (nI (2 * c + 1)) 36 = 0 ∧ ms_c (nI (2 * c + 1)) L = 0 := by
    rcases R.2.2.2 (2 * c + 1) hc with h | h | h | h
    · exact absurd (z0.2.2.symm.trans h.1) (by decide)
    · exact absurd (z0.2.2.symm.trans h.1) (by decide)
    · exact ⟨h.2.1, h.2.2.1⟩
    · exact ⟨h.2.1, h.2.2.1⟩
  have hs : ∀ g, es g ≠ 0 → upd (upd es (2 * c) 1) (2 * c + 1) 1 g = es g ∧ upd (upd ew (2 * c) (nI (i / 6))) (2 * c + 1) (nI (j / 6)) g = ew g := fun g hg => by
    have n0 : g ≠ 2 * c := fun q => hg (by rw [q]; exact h0)
    have n1 : g ≠ 2 * c + 1 := fun q => hg (by rw [q]; exact z0.2.2)
    rw [pk_un n1, pk_un n0, pk_un n1, pk_un n0]
    exact ⟨rfl, rfl⟩
  have hu : ∀ f, f < E → hn_c (upd (upd hd i (nI (2 * c))) j (nI (2 * c + 1))) (nI f) 36 = hn_c hd (nI f) 36 + (if f = 2 * c then 1 else 0) + (if f = 2 * c + 1 then 1 else 0) := by
    intro f hf
    have a := hn_upd (hd := upd hd i (nI (2 * c))) (x := nI f) (y := nI (2 * c + 1)) 36 hj
    have b := hn_upd (hd := hd) (x := nI f) (y := nI (2 * c)) 36 hi
    rw [pk_un (fun q => ne q.symm), ej, if_neg (re_n1 (show f < 2 ^ 31 by omega))] at a
    rw [ei, if_neg (re_n1 (show f < 2 ^ 31 by omega))] at b
    by_cases y1 : f = 2 * c + 1
    · rw [if_pos (by rw [y1])] at a
      rw [if_neg (fun q => by have := re_inj (by omega) (by omega) q; omega)] at b
      rw [if_neg (by omega), if_pos y1]; omega
    · rw [if_neg (fun q => y1 (re_inj (by omega) (by omega) q.symm))] at a
      by_cases y0 : f = 2 * c
      · rw [if_pos (by rw [y0])] at b
        rw [if_pos y0, if_neg y1]; omega
      · rw [if_neg (fun q => y0 (re_inj (by omega) (by omega) q.symm))] at b
        rw [if_neg y0, if_neg y1]; omega
  refine ⟨R.1, fun l hl => ?_, fun m hm => ?_, fun f hf => ?_⟩
  · by_cases y1 : l = j
    · right; rw [y1, pk_us]; exact ⟨2 * c + 1, hc, rfl, pk_us, pk_us⟩
    · by_cases y0 : l = i
      · right
        rw [pk_un y1, y0, pk_us]
        exact ⟨2 * c, by omega, rfl, by rw [pk_un (by omega), pk_us], by rw [pk_un (by omega), pk_us]⟩
      · rw [pk_un y1, pk_un y0]
        rcases R.2.1 l hl with z | ⟨g, g1, g2, g3, g4⟩
        · exact Or.inl z
        · have := hs g (by rw [g3]; decide)
          exact Or.inr ⟨g, g1, g2, by rw [this.1]; exact g3, by rw [this.2]; exact g4⟩
  · obtain ⟨a1, a2, a3⟩ := R.2.2.1 m hm
    refine ⟨a1, a2, fun k2 => ?_⟩
    obtain ⟨g, g1, g2, g3, g4⟩ := a3 k2
    have := hs g (by rw [g3]; decide)
    exact ⟨g, g1, g2, by rw [this.1]; exact g3, by rw [this.2]; exact g4⟩
  · rw [hu f hf]
    by_cases y1 : f = 2 * c + 1
    · subst y1
      rw [if_neg (by omega), if_pos rfl]
      exact Or.inl ⟨pk_us, by omega, z1.2⟩
    · by_cases y0 : f = 2 * c
      · subst y0
        rw [if_pos rfl, if_neg (by omega)]
        exact Or.inl ⟨by rw [pk_un (by omega), pk_us], by omega, z0.2.1⟩
      · rw [if_neg y0, if_neg y1, pk_un y1, pk_un y0, pk_un y1, pk_un y0]
        have n1 : pr f ≠ 2 * c + 1 := fun q => y0 (by rw [← pr_pr f, q, pr_1])
        have n0 : pr f ≠ 2 * c := fun q => y1 (by rw [← pr_pr f, q, pr_0])
        rw [pk_un n1, pk_un n0]
        exact R.2.2.2 f hf
theorem re_move (R : re_R E hd L es ew) {i j e : Nat} (hi : i < 36) (hj : j < 36) (he : hd i = nI e) (h16 : e < 16) (hij : j ≠ i → hd j = -1) :
    re_R E (upd (upd hd i (-1)) j (nI e)) L (upd es e 1) (upd ew e (nI (j / 6))) := by
  obtain ⟨f1, f2, f3, f4, f5, f6⟩ := re_of_hd R hi he h16
  have hE := R.1.1
  have d1 := re_drop1 R hi he h16
  have ej : upd hd i (-1) j = -1 := by
    by_cases z : j = i
    · rw [z, pk_us]
    · rw [pk_un z]; exact hij z
  refine ⟨R.1, fun l hl => ?_, ?_, fun f hf => ?_⟩
  · by_cases y : l = j
    · right; rw [y, pk_us]; exact ⟨e, f1, rfl, pk_us, pk_us⟩
    · rw [pk_un y]
      rcases d1 l hl with z | ⟨g, g1, gn, g2, g3, g4⟩
      · exact Or.inl z
      · exact Or.inr ⟨g, g1, g2, by rw [pk_un gn]; exact g3, by rw [pk_un gn]; exact g4⟩
  · exact re_m2 R (e := e) (by rw [f2]; decide) (fun g ne h => by rw [pk_un ne]; exact h) (fun g ne h => by rw [pk_un ne])
  · have a := hn_upd (hd := upd hd i (-1)) (x := nI f) (y := nI e) 36 hj
    rw [ej, if_neg (re_n1 (show f < 2 ^ 31 by omega))] at a
    by_cases z : f = e
    · subst z
      rw [if_pos rfl, re_drop3 R hi he h16] at a
      exact Or.inl ⟨pk_us, by omega, f5⟩
    · rw [if_neg (fun q => z (re_inj (by omega) h16 q.symm)), re_drop2 R hi he h16 hf z] at a
      have a : hn_c (upd (upd hd i (-1)) j (nI e)) (nI f) 36 = hn_c hd (nI f) 36 := by omega
      rw [a, pk_un z, pk_un z]
      rcases R.2.2.2 f hf with h | h | h | h
      · exact Or.inl h
      · exact Or.inr (Or.inl h)
      · exact Or.inr (Or.inr (Or.inl ⟨h.1, h.2.1, h.2.2.1, h.2.2.2.1, h.2.2.2.2.1, re_p12 (Or.inl rfl) h.2.2.2.2.2⟩))
      · exact Or.inr (Or.inr (Or.inr ⟨h.1, h.2.1, h.2.2.1, h.2.2.2.1, h.2.2.2.2.1, re_p0 h.2.2.2.2.2 (by rw [f2]; decide)⟩))
theorem re_ext (R : re_R E hd L es ew) {hd' es' ew' : Nat → Int32} (h1 : ∀ i, i < 36 → hd' i = hd i) (h2 : ∀ e, e < E → es' e = es e) (h3 : ∀ e, e < E → ew' e = ew e) : re_R E hd' L es' ew' := by
  obtain ⟨⟨e1, e2⟩, r1, r2, r3⟩ := R
  refine ⟨⟨e1, e2⟩, fun i hi => ?_, fun m hm => ?_, fun e he => ?_⟩
  · rw [h1 i hi]
    rcases r1 i hi with z | ⟨g, g1, g2, g3, g4⟩
    · exact Or.inl z
    · exact Or.inr ⟨g, g1, g2, by rw [h2 g g1]; exact g3, by rw [h3 g g1]; exact g4⟩
  · obtain ⟨a1, a2, a3⟩ := r2 m hm
    refine ⟨a1, a2, fun k2 => ?_⟩
    obtain ⟨g, g1, g2, g3, g4⟩ := a3 k2
    exact ⟨g, g1, g2, by rw [h2 g g1]; exact g3, by rw [h3 g g1]; exact g4⟩
  · rw [hn_ext (h := hd') (g := hd) 36 h1, h2 e he, h3 e he, h2 _ (pr_lt he e2)]
    exact r3 e he
end REM
end
section
section WX1
variable {tY pR cH cP stl cD vd eK eD eP stt oC : Int32} {tk sa sb gK gA gB cl nC dd dp dl dm pt cO cA cB cC cx cu st pd pp pa pf pv es ew qh qc qk qv ou cm : Nat → Int32}
variable {post : Int32 → Prop}
/-! X: tests that read nothing or little -/
theorem wx_in1 {j N : Nat} {hi : Int32} (h : j < N) (k : post 1) (hN : N < 2 ^ 31 := by omega) (hh : hi = nI N - 1 := by first | rfl | decide) : wpX_inside post (tY, pR, cH, cP, stl, cD, vd, eK, eD, eP, stt, oC, tk, sa, sb, gK, gA, gB, cl, nC, dd, dp, dl, dm, pt, cO, cA, cB, cC, cx, cu, st, pd, pp, pa, pf, pv, es, ew, qh, qc, qk, qv, ou, cm) (nI j) 0 hi :=
  br_f (nI_pos (by omega)) (br_f (by rw [hh]; exact nu_lo hN h) k)
theorem wx_in0 {v hi : Int32} {N : Nat} (h : v < 0 ∨ nI N ≤ v) (k : post 0) (hN : N < 2 ^ 31 := by omega) (hh : hi = nI N - 1 := by first | rfl | decide) : wpX_inside post (tY, pR, cH, cP, stl, cD, vd, eK, eD, eP, stt, oC, tk, sa, sb, gK, gA, gB, cl, nC, dd, dp, dl, dm, pt, cO, cA, cB, cC, cx, cu, st, pd, pp, pa, pf, pv, es, ew, qh, qc, qk, qv, ou, cm) v 0 hi := by
  by_cases z : v < 0
  · exact br_t z k
  · exact br_f z (br_t (by rw [hh]; exact nu_hi hN z (h.resolve_left z)) k)
theorem wx_clamp {v lo hi : Int32} (k : post (if lo ≤ v then (if v ≤ hi then v else hi) else lo)) : wpX_clamp post (tY, pR, cH, cP, stl, cD, vd, eK, eD, eP, stt, oC, tk, sa, sb, gK, gA, gB, cl, nC, dd, dp, dl, dm, pt, cO, cA, cB, cC, cx, cu, st, pd, pp, pa, pf, pv, es, ew, qh, qc, qk, qv, ou, cm) v lo hi := by
  by_cases h : lo ≤ v
  · rw [if_pos h] at k
    by_cases h2 : v ≤ hi
    · rw [if_pos h2] at k; exact br_t h (br_t h2 k)
    · rw [if_neg h2] at k; exact br_t h (br_f h2 k)
  · rw [if_neg h] at k; exact br_f h k
theorem wx_isDecl {d : Nat} (h : d < 6) (k0 : dd d = 0 → post 0) (k1 : ¬ dd d = 0 → post 1) : wpX_isDeclared post (tY, pR, cH, cP, stl, cD, vd, eK, eD, eP, stt, oC, tk, sa, sb, gK, gA, gB, cl, nC, dd, dp, dl, dm, pt, cO, cA, cB, cC, cx, cu, st, pd, pp, pa, pf, pv, es, ew, qh, qc, qk, qv, ou, cm) (nI d) := by
  refine br_f (nI_pos (by omega)) (br_f (nI_ge (b := 6) h (by decide)) ⟨vp_in_nI h (by decide), ?_⟩)
  rw [nI_clamp (by omega)]
  exact br_c k0 k1
theorem wx_isDecl0 {v : Int32} (h : v < 0 ∨ nI 6 ≤ v) (k : post 0) : wpX_isDeclared post (tY, pR, cH, cP, stl, cD, vd, eK, eD, eP, stt, oC, tk, sa, sb, gK, gA, gB, cl, nC, dd, dp, dl, dm, pt, cO, cA, cB, cC, cx, cu, st, pd, pp, pa, pf, pv, es, ew, qh, qc, qk, qv, ou, cm) v := by
  by_cases z : v < 0
  · exact br_t z k
  · exact br_f z (br_t (h.resolve_left z) k)
theorem wx_mc {o : Nat} (ho : o < 15) (k : post (if o = 0 ∨ o = 1 then -1 else if o = 5 ∨ o = 11 then 1 else 0)) : wpX_missingChange post (tY, pR, cH, cP, stl, cD, vd, eK, eD, eP, stt, oC, tk, sa, sb, gK, gA, gB, cl, nC, dd, dp, dl, dm, pt, cO, cA, cB, cC, cx, cu, st, pd, pp, pa, pf, pv, es, ew, qh, qc, qk, qv, ou, cm) (nI o) := by
  refine pk_eq o 0 (fun h => ?_) (fun h0 => pk_eq o 1 (fun h => ?_) (fun h1 => pk_eq o 5 (fun h => ?_) (fun h5 => pk_eq o 11 (fun h => ?_) (fun h11 => ?_))))
  · rw [if_pos (Or.inl h)] at k; exact k
  · rw [if_pos (Or.inr h)] at k; exact k
  · rw [if_neg (by omega), if_pos (Or.inl h)] at k; exact k
  · rw [if_neg (by omega), if_pos (Or.inr h)] at k; exact k
  · rw [if_neg (by omega), if_neg (by omega)] at k; exact k
theorem wx_cb {m : Nat} (hm : m < 64) : ∀ n v s, v ≤ 6 → 6 < n + v → post (nI (s + bm_c m 6)) → wX_countBits_4 post (nI m) tY pR cH cP stl cD vd eK eD eP stt oC tk sa sb gK gA gB cl nC dd dp dl dm pt cO cA cB cC cx cu st pd pp pa pf pv es ew qh qc qk qv ou cm n (nI (s + bm_c m v)) (nI v) := by
  intro n
  induction n with
  | zero => intro v s h1 h2; omega
  | succ n ih =>
    intro v s h1 h2 k
    by_cases h : v = 6
    · subst h; exact br_t (nI_le (a := 6) (b := 6) (by omega) (by decide)) k
    · refine br_f (nI_ge (b := 6) (by omega) (by decide)) ?_
      refine nm_r (e' := nI (s + bm_c m (v + 1))) ?_ (nm_r (nI_1 v) (ih (v + 1) s (by omega) (by omega) k))
      rw [bm_sr v (by omega) m hm, nI_add]; rw [bm_c]; congr 1; omega
theorem wx_countBits {m : Nat} (hm : m < 64) (k : post (nI (bm_c m 6))) : wpX_countBits post (tY, pR, cH, cP, stl, cD, vd, eK, eD, eP, stt, oC, tk, sa, sb, gK, gA, gB, cl, nC, dd, dp, dl, dm, pt, cO, cA, cB, cC, cx, cu, st, pd, pp, pa, pf, pv, es, ew, qh, qc, qk, qv, ou, cm) (nI m) :=
  ⟨7, wx_cb hm 7 0 0 (by omega) (by omega) (by rw [Nat.zero_add]; exact k)⟩
def cx_b (g : Nat → Int32) (v : Nat) : Bool := decide (¬ g v < 0)
def jm (g : Nat → Int32) : Nat := bm_m (cx_b g) 6
theorem wx_cm : ∀ n v, v ≤ 6 → 6 < n + v → post (nI (bm_m (cx_b cu) 6)) → wX_contextMask_4 post tY pR cH cP stl cD vd eK eD eP stt oC tk sa sb gK gA gB cl nC dd dp dl dm pt cO cA cB cC cx cu st pd pp pa pf pv es ew qh qc qk qv ou cm n (nI (bm_m (cx_b cu) v)) (nI v) := by
  intro n
  induction n with
  | zero => intro v h1 h2; omega
  | succ n ih =>
    intro v h1 h2 k
    by_cases h : v = 6
    · subst h; exact br_t (nI_le (a := 6) (b := 6) (by omega) (by decide)) k
    · refine br_f (nI_ge (b := 6) (by omega) (by decide)) ⟨vp_in_nI (by omega) (by decide), ?_⟩
      rw [nI_clamp (by omega)]
      have l := bm_m_lt (cx_b cu) v
      by_cases z : cu v < 0
      · refine br_t z (nm_r (nI_1 v) ?_)
        have e : bm_m (cx_b cu) v = bm_m (cx_b cu) (v + 1) := by
          rw [bm_m, if_neg (by unfold cx_b; rw [decide_eq_true_iff]; exact fun q => q z)]; rfl
        rw [e]
        exact ih (v + 1) (by omega) (by omega) k
      · refine br_f z (nm_r (e' := nI (bm_m (cx_b cu) (v + 1))) ?_ (nm_r (nI_1 v) (ih (v + 1) (by omega) (by omega) k)))
        rw [bm_or v (by omega) _ (Nat.lt_of_lt_of_le l (Nat.le_trans (Nat.pow_le_pow_right (by omega) (show v ≤ 6 by omega)) (by decide))) l, bm_m, if_pos (by unfold cx_b; rw [decide_eq_true_iff]; exact z)]
theorem wx_contextMask (k : post (nI (jm cu))) : wpX_contextMask post (tY, pR, cH, cP, stl, cD, vd, eK, eD, eP, stt, oC, tk, sa, sb, gK, gA, gB, cl, nC, dd, dp, dl, dm, pt, cO, cA, cB, cC, cx, cu, st, pd, pp, pa, pf, pv, es, ew, qh, qc, qk, qv, ou, cm) := ⟨7, wx_cm 7 0 (by omega) (by omega) k⟩
theorem wx_bmk {p : Nat} (hp : p < 6) : ∀ n v, v ≤ 6 → 6 < n + v → post (nI (bm_m (cx_b (fun j => pv (p * 6 + j))) 6)) → wX_boundMask_4 post (nI p) tY pR cH cP stl cD vd eK eD eP stt oC tk sa sb gK gA gB cl nC dd dp dl dm pt cO cA cB cC cx cu st pd pp pa pf pv es ew qh qc qk qv ou cm n (nI (bm_m (cx_b (fun j => pv (p * 6 + j))) v)) (nI v) := by
  intro n
  induction n with
  | zero => intro v h1 h2; omega
  | succ n ih =>
    intro v h1 h2 k
    by_cases h : v = 6
    · subst h; exact br_t (nI_le (a := 6) (b := 6) (by omega) (by decide)) k
    · have e0 : nI p * 6 + nI v = nI (p * 6 + v) := by rw [nu_m6, nI_add]
      refine br_f (nI_ge (b := 6) (by omega) (by decide)) ?_
      rw [e0, nI_clamp (by omega)]
      refine ⟨vp_in_nI (by omega) (by decide), ?_⟩
      have l := bm_m_lt (cx_b (fun j => pv (p * 6 + j))) v
      by_cases z : pv (p * 6 + v) < 0
      · refine br_t z (nm_r (nI_1 v) ?_)
        have e : bm_m (cx_b (fun j => pv (p * 6 + j))) v = bm_m (cx_b (fun j => pv (p * 6 + j))) (v + 1) := by
          rw [bm_m, if_neg (by unfold cx_b; rw [decide_eq_true_iff]; exact fun q => q z)]; rfl
        rw [e]
        exact ih (v + 1) (by omega) (by omega) k
      · refine br_f z (nm_r (e' := nI (bm_m (cx_b (fun j => pv (p * 6 + j))) (v + 1))) ?_ (nm_r (nI_1 v) (ih (v + 1) (by omega) (by omega) k)))
        rw [bm_or v (by omega) _ (Nat.lt_of_lt_of_le l (Nat.le_trans (Nat.pow_le_pow_right (by omega) (show v ≤ 6 by omega)) (by decide))) l, bm_m, if_pos (by unfold cx_b; rw [decide_eq_true_iff]; exact z)]
theorem wx_boundMask {p : Nat} (hp : p < 6) (k : post (nI (jm (fun j => pv (p * 6 + j))))) : wpX_boundMask post (tY, pR, cH, cP, stl, cD, vd, eK, eD, eP, stt, oC, tk, sa, sb, gK, gA, gB, cl, nC, dd, dp, dl, dm, pt, cO, cA, cB, cC, cx, cu, st, pd, pp, pa, pf, pv, es, ew, qh, qc, qk, qv, ou, cm) (nI p) := ⟨7, wx_bmk hp 7 0 (by omega) (by omega) k⟩
end WX1
end
section
section WX2
variable {tY pR cH cP stl cD vd eK eD eP stt oC : Int32} {tk sa sb gK gA gB cl nC dd dp dl dm pt cO cA cB cC cx cu st pd pp pa pf pv es ew qh qc qk qv ou cm : Nat → Int32}
variable {post : SX → Prop}
/-! X: the run forgotten, edits -/
theorem wx_rs37 {p : Nat} (hp : p < 6) : ∀ n v, v ≤ 6 → 6 < n + v → post (tY, pR, cH, cP, stl, cD, vd, eK, eD, eP, stt, oC, tk, sa, sb, gK, gA, gB, cl, nC, dd, dp, dl, dm, pt, cO, cA, cB, cC, cx, cu, st, pd, pp, pa, pf, fw pv (p * 6) 6 (fun _ => -1), es, ew, qh, qc, qk, qv, ou, cm) → wX_resetSlot_37 post (nI p) tY pR cH cP stl cD vd eK eD eP stt oC n (nI v) tk sa sb gK gA gB cl nC dd dp dl dm pt cO cA cB cC cx cu st pd pp pa pf (fw pv (p * 6) v (fun _ => -1)) es ew qh qc qk qv ou cm := by
  intro n
  induction n with
  | zero => intro v h1 h2; omega
  | succ n ih =>
    intro v h1 h2 k
    by_cases h : v = 6
    · subst h; exact br_t (nI_le (a := 6) (b := 6) (by omega) (by decide)) k
    · have e0 : nI p * 6 + nI v = nI (p * 6 + v) := by rw [nu_m6, nI_add]
      refine br_f (nI_ge (b := 6) (by omega) (by decide)) ?_
      rw [e0, nI_clamp (by omega)]
      exact ⟨vp_in_nI (by omega) (by decide), nm_r (fw_s _ _ _ _ rfl) (nm_r (nI_1 v) (ih (v + 1) (by omega) (by omega) k))⟩
theorem wx_resetSlot {p : Nat} (hp : p < 6) (k : post (tY, pR, cH, cP, stl, cD, vd, eK, eD, eP, stt, oC, tk, sa, sb, gK, gA, gB, cl, nC, dd, dp, dl, dm, pt, cO, cA, cB, cC, cx, cu, upd st p 0, upd pd p 0, upd pp p 0, upd pa p 0, upd pf p 0, fw pv (p * 6) 6 (fun _ => -1), es, ew, qh, qc, qk, qv, ou, cm)) : wpX_resetSlot post (tY, pR, cH, cP, stl, cD, vd, eK, eD, eP, stt, oC, tk, sa, sb, gK, gA, gB, cl, nC, dd, dp, dl, dm, pt, cO, cA, cB, cC, cx, cu, st, pd, pp, pa, pf, pv, es, ew, qh, qc, qk, qv, ou, cm) (nI p) := by
  have i6 : vp_in (nI p) 6 := vp_in_nI hp (by decide)
  have e : (nI p).toNatClampNeg = p := nI_clamp (by omega)
  refine ⟨i6, nm_r (e' := upd st p 0) (by rw [e]) ⟨i6, nm_r (e' := upd pd p 0) (by rw [e]) ⟨i6, nm_r (e' := upd pp p 0) (by rw [e]) ⟨i6, nm_r (e' := upd pa p 0) (by rw [e]) ⟨i6, nm_r (e' := upd pf p 0) (by rw [e]) ⟨7, ?_⟩⟩⟩⟩⟩⟩
  have := wx_rs37 (post := post) (tY := tY) (pR := pR) (cH := cH) (cP := cP) (stl := stl) (cD := cD) (vd := vd) (eK := eK) (eD := eD) (eP := eP) (stt := stt) (oC := oC) (pv := pv) hp 7 0 (by omega) (by omega) k
  rw [fw_0] at this
  exact this
theorem wx_cr33 {C : Nat} (hC : C ≤ 8) : ∀ n e, e ≤ 2 * C → 2 * C < n + e → post (tY, pR, nI C, cP, stl, cD, vd, eK, eD, eP, stt, oC, tk, sa, sb, gK, gA, gB, cl, nC, dd, dp, dl, dm, pt, cO, cA, cB, cC, cx, cu, st, pd, pp, pa, pf, pv, fw es 0 (2 * C) (fun _ => 0), fw ew 0 (2 * C) (fun _ => -1), fw qh 0 (2 * C) (fun _ => 0), fw qc 0 (2 * C) (fun _ => 0), qk, qv, ou, cm) →
    wX_clearRun_33 post tY pR (nI C) cP stl cD vd eK eD eP stt oC n (nI e) tk sa sb gK gA gB cl nC dd dp dl dm pt cO cA cB cC cx cu st pd pp pa pf pv (fw es 0 e (fun _ => 0)) (fw ew 0 e (fun _ => -1)) (fw qh 0 e (fun _ => 0)) (fw qc 0 e (fun _ => 0)) qk qv ou cm := by
  intro n
  induction n with
  | zero => intro v h1 h2; omega
  | succ n ih =>
    intro v h1 h2 k
    by_cases h : v = 2 * C
    · subst h
      refine br_t ?_ k
      rw [nu_2m]; exact nI_le (Nat.le_refl _) (by omega)
    · have i16 : vp_in (nI v) 16 := vp_in_nI (by omega) (by decide)
      have e : (nI v).toNatClampNeg = 0 + v := by rw [nI_clamp (by omega)]; omega
      refine br_f (by rw [nu_2m]; exact nI_ge (by omega) (by omega)) ?_
      rw [e]
      exact ⟨i16, nm_r (fw_s _ _ _ _ rfl) ⟨i16, nm_r (fw_s _ _ _ _ rfl) ⟨i16, nm_r (fw_s _ _ _ _ rfl) ⟨i16, nm_r (fw_s _ _ _ _ rfl) (nm_r (nI_1 v) (ih (v + 1) (by omega) (by omega) k))⟩⟩⟩⟩
theorem wx_cr12 {P C : Nat} (hP : P ≤ 6) (hC : C ≤ 8) : ∀ n p, p ≤ P → P < n + p →
    post (tY, nI P, nI C, cP, stl, cD, vd, eK, eD, eP, stt, oC, tk, sa, sb, gK, gA, gB, cl, nC, dd, dp, dl, dm, pt, cO, cA, cB, cC, cx, cu, fw st 0 P (fun _ => 0), fw pd 0 P (fun _ => 0), fw pp 0 P (fun _ => 0), fw pa 0 P (fun _ => 0), fw pf 0 P (fun _ => 0), fw pv 0 (P * 6) (fun _ => -1), fw es 0 (2 * C) (fun _ => 0), fw ew 0 (2 * C) (fun _ => -1), fw qh 0 (2 * C) (fun _ => 0), fw qc 0 (2 * C) (fun _ => 0), qk, qv, ou, cm) →
    wX_clearRun_12 post n (nI p) tY (nI P) (nI C) cP stl cD vd eK eD eP stt oC tk sa sb gK gA gB cl nC dd dp dl dm pt cO cA cB cC cx cu (fw st 0 p (fun _ => 0)) (fw pd 0 p (fun _ => 0)) (fw pp 0 p (fun _ => 0)) (fw pa 0 p (fun _ => 0)) (fw pf 0 p (fun _ => 0)) (fw pv 0 (p * 6) (fun _ => -1)) es ew qh qc qk qv ou cm := by
  intro n
  induction n with
  | zero => intro v h1 h2; omega
  | succ n ih =>
    intro v h1 h2 k
    by_cases h : v = P
    · subst h
      refine br_t (nI_le (Nat.le_refl _) (by omega)) ⟨2 * C + 1, ?_⟩
      have := wx_cr33 (es := es) (ew := ew) (qh := qh) (qc := qc) hC (2 * C + 1) 0 (by omega) (by omega) k
      rw [fw_0, fw_0, fw_0, fw_0] at this
      exact this
    · refine br_f (nI_ge (by omega) (by omega)) (wx_resetSlot (by omega) ?_)
      have e1 : ∀ a : Nat → Int32, upd (fw a 0 v (fun _ => 0)) v 0 = fw a 0 (v + 1) (fun _ => 0) := fun a => by
        have := fw_s a 0 v (fun _ => 0) (x := 0) rfl
        rw [Nat.zero_add] at this
        exact this
      rw [e1, e1, e1, e1, e1, fw_cat, show v * 6 + 6 = (v + 1) * 6 by omega]
      exact nm_r (nI_1 v) (ih (v + 1) (by omega) (by omega) k)
theorem wx_clearRun {P C : Nat} (hP : P ≤ 6) (hC : C ≤ 8)
    (k : post (tY, nI P, nI C, cP, stl, cD, vd, eK, eD, eP, 0, 0, tk, sa, sb, gK, gA, gB, cl, nC, dd, dp, dl, dm, pt, cO, cA, cB, cC, cx, cu, fw st 0 P (fun _ => 0), fw pd 0 P (fun _ => 0), fw pp 0 P (fun _ => 0), fw pa 0 P (fun _ => 0), fw pf 0 P (fun _ => 0), fw pv 0 (P * 6) (fun _ => -1), fw es 0 (2 * C) (fun _ => 0), fw ew 0 (2 * C) (fun _ => -1), fw qh 0 (2 * C) (fun _ => 0), fw qc 0 (2 * C) (fun _ => 0), qk, qv, ou, cm)) :
    wpX_clearRun post (tY, nI P, nI C, cP, stl, cD, vd, eK, eD, eP, stt, oC, tk, sa, sb, gK, gA, gB, cl, nC, dd, dp, dl, dm, pt, cO, cA, cB, cC, cx, cu, st, pd, pp, pa, pf, pv, es, ew, qh, qc, qk, qv, ou, cm) := by
  refine ⟨P + 1, ?_⟩
  have := wx_cr12 (st := st) (pd := pd) (pp := pp) (pa := pa) (pf := pf) (pv := pv) hP hC (P + 1) 0 (by omega) (by omega) k
  rw [Nat.zero_mul, fw_0, fw_0, fw_0, fw_0, fw_0, fw_0] at this
  exact this
theorem wx_edited {P C : Nat} (hP : P ≤ 6) (hC : C ≤ 8)
    (k : post (tY, nI P, nI C, cP, stl, cD, 0, 0, -1, -1, 0, 0, tk, sa, sb, gK, gA, gB, cl, nC, dd, dp, dl, dm, pt, cO, cA, cB, cC, cx, cu, fw st 0 P (fun _ => 0), fw pd 0 P (fun _ => 0), fw pp 0 P (fun _ => 0), fw pa 0 P (fun _ => 0), fw pf 0 P (fun _ => 0), fw pv 0 (P * 6) (fun _ => -1), fw es 0 (2 * C) (fun _ => 0), fw ew 0 (2 * C) (fun _ => -1), fw qh 0 (2 * C) (fun _ => 0), fw qc 0 (2 * C) (fun _ => 0), qk, qv, ou, cm)) :
    wpX_edited post (tY, nI P, nI C, cP, stl, cD, vd, eK, eD, eP, stt, oC, tk, sa, sb, gK, gA, gB, cl, nC, dd, dp, dl, dm, pt, cO, cA, cB, cC, cx, cu, st, pd, pp, pa, pf, pv, es, ew, qh, qc, qk, qv, ou, cm) := by
  unfold wpX_edited
  exact wx_clearRun hP hC k
end WX2
end
section
section WX3
variable {tY pR cH cP stl cD vd eK eD eP stt oC : Int32} {tk sa sb gK gA gB cl nC dd dp dl dm pt cO cA cB cC cx cu st pd pp pa pf pv es ew qh qc qk qv ou cm : Nat → Int32}
/-! X: the classes of types -/
def tt_A (K A B : Nat → Nat) (tk sa sb : Nat → Int32) : Prop := ∀ i, i < 16 → tk i = nI (K i) ∧ sa i = nI (A i) ∧ sb i = nI (B i)
variable {T : Nat} {K A B c : Nat → Nat}
theorem tt_and1 : ∀ k, k < 7 → (nI k &&& 1 = 1 ↔ k % 2 = 1) := by decide +kernel
theorem wx_opp {post : Int32 → Prop} {k : Nat} (hk : k ≤ 6) (h : post (nI (ty_op k))) : wpX_opposite post (tY, pR, cH, cP, stl, cD, vd, eK, eD, eP, stt, oC, tk, sa, sb, gK, gA, gB, cl, nC, dd, dp, dl, dm, pt, cO, cA, cB, cC, cx, cu, st, pd, pp, pa, pf, pv, es, ew, qh, qc, qk, qv, ou, cm) (nI k) := by
  refine pk_eq k 0 (fun z => ?_) (fun z => ?_)
  · rw [z] at h; exact h
  · unfold ty_op at h
    rw [if_neg z] at h
    by_cases y : k % 2 = 1
    · rw [if_pos y] at h
      refine br_t ((tt_and1 k (by omega)).mpr y) ?_
      rw [nI_1]; exact h
    · rw [if_neg y] at h
      refine br_f (fun q => y ((tt_and1 k (by omega)).mp q)) ?_
      rw [nu_s1 (by omega)]; exact h
def bg_c (T i j : Nat) : Prop := j < 2 * T ∧ (j < i ∨ (T ≤ j ∧ j < T + i))
theorem bg_u {i : Nat} {a : Nat → Int32} {F : Nat → Int32} {x y : Int32} (h : ∀ j, bg_c T i j → a j = F j) (hx : x = F i) (hy : y = F (T + i)) : ∀ j, bg_c T (i + 1) j → upd (upd a i x) (T + i) y j = F j := by
  intro j hj
  by_cases h1 : j = T + i
  · rw [h1, pk_us, hy]
  · rw [pk_un h1]
    by_cases h2 : j = i
    · rw [h2, pk_us, hx]
    · rw [pk_un h2]
      exact h j ⟨hj.1, by have := hj.2; omega⟩
def bg_I (T : Nat) (K A B : Nat → Nat) (i : Nat) (gK gA gB cl : Nat → Int32) : Prop :=
  (∀ j, bg_c T i j → gK j = nI (ty_gk T K j)) ∧ (∀ j, bg_c T i j → gA j = nI (ty_ga T K A j)) ∧ (∀ j, bg_c T i j → gB j = nI (ty_gb T K B j)) ∧ (∀ j, bg_c T i j → cl j = 0)
theorem wx_bg121 {post : SX → Prop} {J2 : Int32 → (Nat → Int32) → (Nat → Int32) → (Nat → Int32) → (Nat → Int32) → (Nat → Int32) → (Nat → Int32) → (Nat → Int32) → (Nat → Int32) → (Nat → Int32) → (Nat → Int32) → (Nat → Int32) → (Nat → Int32) → (Nat → Int32) → (Nat → Int32) → (Nat → Int32) → (Nat → Int32) → (Nat → Int32) → (Nat → Int32) → (Nat → Int32) → (Nat → Int32) → (Nat → Int32) → (Nat → Int32) → (Nat → Int32) → (Nat → Int32) → (Nat → Int32) → (Nat → Int32) → (Nat → Int32) → (Nat → Int32) → (Nat → Int32) → (Nat → Int32) → (Nat → Int32) → (Nat → Int32) → (Nat → Int32) → Prop} {i : Nat} {z : Int32} (hT : T ≤ 16) (hi : i < T)
    (k : J2 (nI (i + 1)) tk sa sb gK gA (upd gB (T + i) z) (upd (upd cl i 0) (T + i) 0) nC dd dp dl dm pt cO cA cB cC cx cu st pd pp pa pf pv es ew qh qc qk qv ou cm) : wX_buildGraph_121 post J2 (nI i) (nI (T + i)) z (nI (T + i)) tY pR cH cP stl cD vd eK eD eP stt oC tk sa sb gK gA gB cl nC dd dp dl dm pt cO cA cB cC cx cu st pd pp pa pf pv es ew qh qc qk qv ou cm := by
  have i1 : vp_in (nI (T + i)) 32 := vp_in_nI (by omega) (by decide)
  have i2 : vp_in (nI i) 32 := vp_in_nI (by omega) (by decide)
  have e1 : (nI (T + i)).toNatClampNeg = T + i := nI_clamp (by omega)
  have e2 : (nI i).toNatClampNeg = i := nI_clamp (by omega)
  unfold wX_buildGraph_121
  rw [e1, e2]
  exact ⟨i1, nm_e ⟨i2, nm_e ⟨i1, nm_e (nm_r (nI_1 i) k)⟩⟩⟩
theorem wx_bg90 {post : SX → Prop} {J2 : Int32 → (Nat → Int32) → (Nat → Int32) → (Nat → Int32) → (Nat → Int32) → (Nat → Int32) → (Nat → Int32) → (Nat → Int32) → (Nat → Int32) → (Nat → Int32) → (Nat → Int32) → (Nat → Int32) → (Nat → Int32) → (Nat → Int32) → (Nat → Int32) → (Nat → Int32) → (Nat → Int32) → (Nat → Int32) → (Nat → Int32) → (Nat → Int32) → (Nat → Int32) → (Nat → Int32) → (Nat → Int32) → (Nat → Int32) → (Nat → Int32) → (Nat → Int32) → (Nat → Int32) → (Nat → Int32) → (Nat → Int32) → (Nat → Int32) → (Nat → Int32) → (Nat → Int32) → (Nat → Int32) → (Nat → Int32) → Prop} {i : Nat} {z : Int32} (w : ty_W T K A B) (ha : tt_A K A B tk sa sb) (hi : i < T)
    (k : J2 (nI (i + 1)) tk sa sb gK (upd gA (T + i) z) (upd gB (T + i) (nI (ty_gb T K B (T + i)))) (upd (upd cl i 0) (T + i) 0) nC dd dp dl dm pt cO cA cB cC cx cu st pd pp pa pf pv es ew qh qc qk qv ou cm) : wX_buildGraph_90 post J2 (nI i) (nI (K i)) (nI (T + i)) z (nI (T + i)) (nI T) pR cH cP stl cD vd eK eD eP stt oC tk sa sb gK gA gB cl nC dd dp dl dm pt cO cA cB cC cx cu st pd pp pa pf pv es ew qh qc qk qv ou cm := by
  have hT := w.2.1
  have i1 : vp_in (nI (T + i)) 32 := vp_in_nI (by omega) (by decide)
  have i2 : vp_in (nI i) 16 := vp_in_nI (by omega) (by decide)
  have e1 : (nI (T + i)).toNatClampNeg = T + i := nI_clamp (by omega)
  have e2 : (nI i).toNatClampNeg = i := nI_clamp (by omega)
  have wi := w.2.2 i (by omega)
  have hb := (ha i (by omega)).2.2
  rw [ty_gb_hi] at k
  unfold wX_buildGraph_90
  rw [e1, e2, hb, nI_add]
  refine ⟨i1, nm_e (pk_lt (K i) 5 (fun h => ⟨i2, ?_⟩) (fun h => ⟨i2, ?_⟩))⟩
  · rw [if_pos h] at k; exact wx_bg121 hT hi k
  · rw [if_neg (by omega)] at k; exact wx_bg121 hT hi k
theorem wx_bg2 {post : SX → Prop} (w : ty_W T K A B) (ha : tt_A K A B tk sa sb) (kk : ∀ gK gA gB cl : Nat → Int32, bg_I T K A B T gK gA gB cl → post (nI T, pR, cH, cP, stl, cD, vd, eK, eD, eP, stt, oC, tk, sa, sb, gK, gA, gB, cl, nC, dd, dp, dl, dm, pt, cO, cA, cB, cC, cx, cu, st, pd, pp, pa, pf, pv, es, ew, qh, qc, qk, qv, ou, cm)) :
    ∀ n i (gK gA gB cl : Nat → Int32), i ≤ T → T < n + i → bg_I T K A B i gK gA gB cl → wX_buildGraph_2 post (nI T) pR cH cP stl cD vd eK eD eP stt oC n (nI i) tk sa sb gK gA gB cl nC dd dp dl dm pt cO cA cB cC cx cu st pd pp pa pf pv es ew qh qc qk qv ou cm := by
  intro n
  induction n with
  | zero => intro i _ _ _ _ h1 h2; omega
  | succ n ih =>
    intro i gK gA gB cl h1 h2 I
    have hT := w.2.1
    by_cases h : i = T
    · subst h; exact br_t (nI_le (Nat.le_refl _) (by omega)) (kk _ _ _ _ I)
    · have i1 : vp_in (nI (T + i)) 32 := vp_in_nI (by omega) (by decide)
      have i2 : vp_in (nI i) 16 := vp_in_nI (by omega) (by decide)
      have i3 : vp_in (nI i) 32 := vp_in_nI (by omega) (by decide)
      have e1 : (nI (T + i)).toNatClampNeg = T + i := nI_clamp (by omega)
      have e2 : (nI i).toNatClampNeg = i := nI_clamp (by omega)
      have wi := w.2.2 i (by omega)
      obtain ⟨hk, hA, hB⟩ := ha i (by omega)
      refine br_f (nI_ge (by omega) (by omega)) ?_
      rw [e2]
      refine ⟨i2, nm_r hk (nm_r (nI_add T i) ⟨i3, nm_e ⟨i2, i3, nm_e ⟨i2, i3, nm_e (wx_opp wi.1 ⟨i1, nm_r (e' := upd (upd gK i (nI (K i))) (T + i) (nI (ty_op (K i)))) (by rw [e1]) ?_⟩)⟩⟩⟩)⟩
      have I' : ∀ z : Int32, z = nI (ty_ga T K A (T + i)) → bg_I T K A B (i + 1) (upd (upd gK i (nI (K i))) (T + i) (nI (ty_op (K i)))) (upd (upd gA i (sa i)) (T + i) z) (upd (upd gB i (sb i)) (T + i) (nI (ty_gb T K B (T + i)))) (upd (upd cl i 0) (T + i) 0) := by
        intro z hz
        refine ⟨bg_u (F := fun j => nI (ty_gk T K j)) I.1 ?_ ?_, bg_u (F := fun j => nI (ty_ga T K A j)) I.2.1 ?_ hz, bg_u (F := fun j => nI (ty_gb T K B j)) I.2.2.1 ?_ rfl, bg_u (F := fun _ => 0) I.2.2.2 rfl rfl⟩
        · show _ = nI (ty_gk T K i); rw [ty_gk_lo (by omega)]
        · show _ = nI (ty_gk T K (T + i)); rw [ty_gk_hi]
        · show _ = nI (ty_ga T K A i); rw [ty_ga_lo (by omega), hA]
        · show _ = nI (ty_gb T K B i); rw [ty_gb_lo (by omega), hB]
      have hg : ty_ga T K A (T + i) = if K i = 0 then 0 else T + A i := ty_ga_hi
      refine pk_eq (K i) 0 (fun z => ?_) (fun z => ⟨i2, ?_⟩)
      · rw [if_pos z] at hg
        exact wx_bg90 w ha (by omega) (ih _ _ _ _ _ (by omega) (by omega) (I' _ (by rw [hg]; rfl)))
      · rw [if_neg z] at hg
        rw [show nI T + sa i = nI (T + A i) by rw [hA, nI_add]]
        exact wx_bg90 w ha (by omega) (ih _ _ _ _ _ (by omega) (by omega) (I' _ (by rw [hg])))
theorem wx_buildGraph {post : SX → Prop} (w : ty_W T K A B) (ha : tt_A K A B tk sa sb) (kk : ∀ gK gA gB cl : Nat → Int32, bg_I T K A B T gK gA gB cl → post (nI T, pR, cH, cP, stl, cD, vd, eK, eD, eP, stt, oC, tk, sa, sb, gK, gA, gB, cl, nC, dd, dp, dl, dm, pt, cO, cA, cB, cC, cx, cu, st, pd, pp, pa, pf, pv, es, ew, qh, qc, qk, qv, ou, cm)) : wpX_buildGraph post (nI T, pR, cH, cP, stl, cD, vd, eK, eD, eP, stt, oC, tk, sa, sb, gK, gA, gB, cl, nC, dd, dp, dl, dm, pt, cO, cA, cB, cC, cx, cu, st, pd, pp, pa, pf, pv, es, ew, qh, qc, qk, qv, ou, cm) :=
  ⟨T + 1, wx_bg2 w ha kk (T + 1) 0 gK gA gB cl (by omega) (by omega) ⟨fun j h => absurd h.2 (by omega), fun j h => absurd h.2 (by omega), fun j h => absurd h.2 (by omega), fun j h => absurd h.2 (by omega)⟩⟩
/-- the graph's arrays hold the doubled graph -/
def gg_A (T : Nat) (K A B : Nat → Nat) (gK gA gB : Nat → Int32) : Prop := ∀ j, j < 2 * T → gK j = nI (ty_gk T K j) ∧ gA j = nI (ty_ga T K A j) ∧ gB j = nI (ty_gb T K B j)
def ll_m (T : Nat) (K A B c : Nat → Nat) (j i : Nat) : Prop := ty_gk T K j = ty_gk T K i ∧ c (ty_ga T K A j) = c (ty_ga T K A i) ∧ c (ty_gb T K B j) = c (ty_gb T K B i)
def ll_L (T : Nat) (K A B c : Nat → Nat) (i r : Nat) : Prop := r ≤ i ∧ ll_m T K A B c r i ∧ ∀ j, j < r → ¬ ll_m T K A B c j i
theorem ty_gk_le (w : ty_W T K A B) {i : Nat} (hi : i < 2 * T) : ty_gk T K i ≤ 7 := by
  obtain ⟨w1, w2, w3⟩ := w
  unfold ty_gk
  split
  · have := (w3 i (by omega)).1; omega
  · have := (w3 (i - T) (by omega)).1
    unfold ty_op
    split
    · omega
    · split <;> omega
theorem wx_ll27 {post : Int32 → Prop} (w : ty_W T K A B) (hg : gg_A T K A B gK gA gB) (hc : ∀ j, j < 2 * T → cl j = nI (c j)) (hl : ∀ j, j < 2 * T → c j < 32) {i : Nat} (hi : i < 2 * T) (kk : ∀ r, ll_L T K A B c i r → post (nI r)) :
    ∀ n j, j ≤ i → i < n + j → (∀ j', j' < j → ¬ ll_m T K A B c j' i) → wX_lowestLike_27 post (nI i) (nI (c (ty_ga T K A i))) (nI (c (ty_gb T K B i))) tY pR cH cP stl cD vd eK eD eP stt oC tk sa sb gK gA gB cl nC dd dp dl dm pt cO cA cB cC cx cu st pd pp pa pf pv es ew qh qc qk qv ou cm n (nI j) := by
  intro n
  induction n with
  | zero => intro j h1 h2; omega
  | succ n ih =>
    intro j h1 h2 I
    have hT := w.2.1
    by_cases h : j = i
    · subst h; exact br_t (nI_le (Nat.le_refl _) (by omega)) (kk j ⟨Nat.le_refl _, ⟨rfl, rfl, rfl⟩, I⟩)
    · obtain ⟨g1, g2, g3⟩ := hg j (by omega)
      obtain ⟨f1, f2, f3⟩ := hg i hi
      have a1 := ty_ga_lt w j (by omega)
      have a2 := ty_ga_lt w i hi
      have b1 := ty_gb_lt w j (by omega)
      have b2 := ty_gb_lt w i hi
      have k1 := ty_gk_le w (i := j) (by omega)
      have k2 := ty_gk_le w (i := i) hi
      have c1 := hl _ a1
      have c2 := hl _ a2
      have c3 := hl _ b1
      have c4 := hl _ b2
      have i1 : vp_in (nI j) 32 := vp_in_nI (by omega) (by decide)
      have i2 : vp_in (nI i) 32 := vp_in_nI (by omega) (by decide)
      refine br_f (nI_ge (by omega) (by omega)) ⟨i1, i2, ?_⟩
      rw [nI_clamp (show j < 2 ^ 31 by omega), nI_clamp (show i < 2 ^ 31 by omega), g1, g2, g3, f1, nI_clamp (show ty_ga T K A j < 2 ^ 31 by omega), nI_clamp (show ty_gb T K B j < 2 ^ 31 by omega), hc _ a1, hc _ b1]
      have next : ¬ ll_m T K A B c j i → ∀ j', j' < j + 1 → ¬ ll_m T K A B c j' i := fun q j' hj' => by
        by_cases e : j' = j
        · rw [e]; exact q
        · exact I j' (by omega)
      refine pk_eq _ _ (fun e1 => ⟨i1, vp_in_nI (by omega) (by decide), pk_eq _ _ (fun e2 => ⟨i1, vp_in_nI (by omega) (by decide), pk_eq _ _ (fun e3 => kk j ⟨by omega, ⟨e1, e2, e3⟩, I⟩) (fun e3 => ?_)⟩) (fun e2 => ?_)⟩) (fun e1 => ?_)
      · exact nm_r (nI_1 j) (ih (j + 1) (by omega) (by omega) (next (fun q => e3 q.2.2)))
      · exact nm_r (nI_1 j) (ih (j + 1) (by omega) (by omega) (next (fun q => e2 q.2.1)))
      · exact nm_r (nI_1 j) (ih (j + 1) (by omega) (by omega) (next (fun q => e1 q.1)))
theorem wx_lowestLike {post : Int32 → Prop} (w : ty_W T K A B) (hg : gg_A T K A B gK gA gB) (hc : ∀ j, j < 2 * T → cl j = nI (c j)) (hl : ∀ j, j < 2 * T → c j < 32) {i : Nat} (hi : i < 2 * T) (kk : ∀ r, ll_L T K A B c i r → post (nI r)) :
    wpX_lowestLike post (tY, pR, cH, cP, stl, cD, vd, eK, eD, eP, stt, oC, tk, sa, sb, gK, gA, gB, cl, nC, dd, dp, dl, dm, pt, cO, cA, cB, cC, cx, cu, st, pd, pp, pa, pf, pv, es, ew, qh, qc, qk, qv, ou, cm) (nI i) := by
  have hT := w.2.1
  obtain ⟨f1, f2, f3⟩ := hg i hi
  have a2 := ty_ga_lt w i hi
  have b2 := ty_gb_lt w i hi
  have i2 : vp_in (nI i) 32 := vp_in_nI (by omega) (by decide)
  unfold wpX_lowestLike
  dsimp only
  rw [nI_clamp (show i < 2 ^ 31 by omega), f2, f3, nI_clamp (show ty_ga T K A i < 2 ^ 31 by omega), nI_clamp (show ty_gb T K B i < 2 ^ 31 by omega), hc _ a2, hc _ b2]
  exact ⟨i2, vp_in_nI (by omega) (by decide), nm_e ⟨i2, vp_in_nI (by omega) (by decide), nm_e ⟨i + 1, wx_ll27 w hg hc hl hi kk (i + 1) 0 (by omega) (by omega) (fun j h => absurd h (Nat.not_lt_zero j))⟩⟩⟩
theorem wx_ro35 {post : Int32 → SX → Prop} {N : Nat} (hN : N ≤ 32) {cl0 : Nat → Int32} (kk : ∀ (f : Int32) (cl : Nat → Int32), (f = 0 ∨ f = 1) → (∀ j, j < N → cl j = nC j) → (f = 0 → ∀ j, j < N → cl0 j = nC j) → (¬ f = 0 → ∃ j, j < N ∧ ¬ cl0 j = nC j) → post f (tY, pR, cH, cP, stl, cD, vd, eK, eD, eP, stt, oC, tk, sa, sb, gK, gA, gB, cl, nC, dd, dp, dl, dm, pt, cO, cA, cB, cC, cx, cu, st, pd, pp, pa, pf, pv, es, ew, qh, qc, qk, qv, ou, cm)) :
    ∀ n i (f : Int32) (cl : Nat → Int32), i ≤ N → N < n + i → (f = 0 ∨ f = 1) → (∀ j, j < i → cl j = nC j) → (∀ j, i ≤ j → cl j = cl0 j) → (f = 0 → ∀ j, j < i → cl0 j = nC j) → (¬ f = 0 → ∃ j, j < i ∧ ¬ cl0 j = nC j) →
    wX_refineOnce_35 post (nI N) tY pR cH cP stl cD vd eK eD eP stt oC n f (nI i) tk sa sb gK gA gB cl nC dd dp dl dm pt cO cA cB cC cx cu st pd pp pa pf pv es ew qh qc qk qv ou cm := by
  intro n
  induction n with
  | zero => intro i f cl h1 h2; omega
  | succ n ih =>
    intro i f cl h1 h2 hf I1 I2 I3 I4
    by_cases h : i = N
    · subst h; exact br_t (nI_le (Nat.le_refl _) (by omega)) ⟨nu_nb hf, kk f cl hf I1 I3 I4⟩
    · have i1 : vp_in (nI i) 32 := vp_in_nI (by omega) (by decide)
      have e1 : (nI i).toNatClampNeg = i := nI_clamp (by omega)
      refine br_f (nI_ge (by omega) (by omega)) ⟨i1, i1, ?_⟩
      have J1 : ∀ j, j < i + 1 → upd cl i (nC i) j = nC j := fun j hj => by
        by_cases e : j = i
        · rw [e, pk_us]
        · rw [pk_un e]; exact I1 j (by omega)
      have J2 : ∀ j, i + 1 ≤ j → upd cl i (nC i) j = cl0 j := fun j hj => by
        rw [pk_un (by omega)]; exact I2 j (by omega)
      rw [e1]
      by_cases z : cl i = nC i
      · refine br_t z ?_
        unfold wX_refineOnce_57
        rw [e1]
        refine ⟨i1, i1, nm_e (nm_r (nI_1 i) (ih (i + 1) f _ (by omega) (by omega) hf J1 J2 (fun q j hj => ?_) (fun q => ?_)))⟩
        · by_cases e : j = i
          · rw [e, ← I2 i (Nat.le_refl _)]; exact z
          · exact I3 q j (by omega)
        · obtain ⟨j, j1, j2⟩ := I4 q
          exact ⟨j, by omega, j2⟩
      · refine br_f z ?_
        unfold wX_refineOnce_57
        rw [e1]
        refine ⟨i1, i1, nm_e (nm_r (nI_1 i) (ih (i + 1) 1 _ (by omega) (by omega) (Or.inr rfl) J1 J2 (fun q j hj => absurd q nu_10) (fun q => ⟨i, by omega, ?_⟩)))⟩
        rw [← I2 i (Nat.le_refl _)]; exact z
theorem wx_ro9 {post : Int32 → SX → Prop} (w : ty_W T K A B) (hg : gg_A T K A B gK gA gB) (hc : ∀ j, j < 2 * T → cl j = nI (c j)) (hl : ∀ j, j < 2 * T → c j < 32)
    (kk : ∀ (f : Int32) (cl' nC : Nat → Int32) (c' : Nat → Nat), (∀ i, i < 2 * T → ll_L T K A B c i (c' i)) → (∀ j, j < 2 * T → cl' j = nI (c' j)) → (f = 0 → ∀ j, j < 2 * T → c j = c' j) → (¬ f = 0 → ∃ j, j < 2 * T ∧ ¬ c j = c' j) → post f (tY, pR, cH, cP, stl, cD, vd, eK, eD, eP, stt, oC, tk, sa, sb, gK, gA, gB, cl', nC, dd, dp, dl, dm, pt, cO, cA, cB, cC, cx, cu, st, pd, pp, pa, pf, pv, es, ew, qh, qc, qk, qv, ou, cm)) :
    ∀ n i (nC : Nat → Int32), i ≤ 2 * T → 2 * T < n + i → (∀ j, j < i → ∃ r, ll_L T K A B c j r ∧ nC j = nI r) → wX_refineOnce_9 post (nI (2 * T)) tY pR cH cP stl cD vd eK eD eP stt oC n (nI i) tk sa sb gK gA gB cl nC dd dp dl dm pt cO cA cB cC cx cu st pd pp pa pf pv es ew qh qc qk qv ou cm := by
  intro n
  induction n with
  | zero => intro i nC h1 h2; omega
  | succ n ih =>
    intro i nC h1 h2 I
    have hT := w.2.1
    by_cases h : i = 2 * T
    · subst h
      have hc' : ∀ j, j < 2 * T → ll_L T K A B c j (nC j).toNatClampNeg ∧ nC j = nI (nC j).toNatClampNeg := fun j hj => by
        obtain ⟨r, r1, r2⟩ := I j hj
        have : (nC j).toNatClampNeg = r := by rw [r2, nI_clamp (by have := r1.1; omega)]
        rw [this]; exact ⟨r1, r2⟩
      refine br_t (nI_le (Nat.le_refl _) (by omega)) ⟨2 * T + 1, wx_ro35 (by omega) (cl0 := cl) (fun f cl' hf q1 q2 q3 => kk f cl' nC (fun j => (nC j).toNatClampNeg) (fun j hj => (hc' j hj).1) (fun j hj => (q1 j hj).trans (hc' j hj).2) (fun z j hj => ?_) (fun z => ?_)) (2 * T + 1) 0 0 cl (by omega) (by omega) (Or.inl rfl) (fun j hj => absurd hj (Nat.not_lt_zero j)) (fun j _ => rfl) (fun _ j hj => absurd hj (Nat.not_lt_zero j)) (fun z => absurd rfl z)⟩
      · have a := q2 z j hj
        rw [hc j hj, (hc' j hj).2] at a
        have := (hc' j hj).1.1
        exact (nI_eq (by have := hl j hj; omega) (by omega)).mp a
      · obtain ⟨j, j1, j2⟩ := q3 z
        refine ⟨j, j1, fun q => j2 ?_⟩
        rw [hc j j1, (hc' j j1).2, q]
    · have i1 : vp_in (nI i) 32 := vp_in_nI (by omega) (by decide)
      have e1 : (nI i).toNatClampNeg = i := nI_clamp (by omega)
      refine br_f (nI_ge (by omega) (by omega)) (wx_lowestLike w hg hc hl (by omega) (fun r hr => ?_))
      refine ⟨i1, nm_r (e' := upd nC i (nI r)) (by rw [e1]) (nm_r (nI_1 i) (ih (i + 1) _ (by omega) (by omega) (fun j hj => ?_)))⟩
      by_cases e : j = i
      · rw [e, pk_us]; exact ⟨r, hr, rfl⟩
      · rw [pk_un e]; exact I j (by omega)
theorem wx_refineOnce {post : Int32 → SX → Prop} (w : ty_W T K A B) (hg : gg_A T K A B gK gA gB) (hc : ∀ j, j < 2 * T → cl j = nI (c j)) (hl : ∀ j, j < 2 * T → c j < 32)
    (kk : ∀ (f : Int32) (cl' nC : Nat → Int32) (c' : Nat → Nat), (∀ i, i < 2 * T → ll_L T K A B c i (c' i)) → (∀ j, j < 2 * T → cl' j = nI (c' j)) → (f = 0 → ∀ j, j < 2 * T → c j = c' j) → (¬ f = 0 → ∃ j, j < 2 * T ∧ ¬ c j = c' j) → post f (nI T, pR, cH, cP, stl, cD, vd, eK, eD, eP, stt, oC, tk, sa, sb, gK, gA, gB, cl', nC, dd, dp, dl, dm, pt, cO, cA, cB, cC, cx, cu, st, pd, pp, pa, pf, pv, es, ew, qh, qc, qk, qv, ou, cm)) :
    wpX_refineOnce post (nI T, pR, cH, cP, stl, cD, vd, eK, eD, eP, stt, oC, tk, sa, sb, gK, gA, gB, cl, nC, dd, dp, dl, dm, pt, cO, cA, cB, cC, cx, cu, st, pd, pp, pa, pf, pv, es, ew, qh, qc, qk, qv, ou, cm) :=
  nm_r (nu_2m T) ⟨2 * T + 1, wx_ro9 w hg hc hl kk (2 * T + 1) 0 nC (by omega) (by omega) (fun j hj => absurd hj (Nat.not_lt_zero j))⟩
theorem wx_rc16 {post : SX → Prop} (w : ty_W T K A B) (hg : gg_A T K A B gK gA gB)
    (kk : ∀ (cl nC : Nat → Int32) (c : Nat → Nat), ty_C T K A B c → (∀ j, j < 2 * T → cl j = nI (c j)) → post (nI T, pR, cH, cP, 0, cD, vd, eK, eD, eP, stt, oC, tk, sa, sb, gK, gA, gB, cl, nC, dd, dp, dl, dm, pt, cO, cA, cB, cC, cx, cu, st, pd, pp, pa, pf, pv, es, ew, qh, qc, qk, qv, ou, cm)) :
    ∀ n r (f : Int32) (cl nC : Nat → Int32) (c : Nat → Nat), r ≤ 33 → 33 < n + r → (∀ j, j < 2 * T → cl j = nI (c j)) → ty_c (ty_gk T K) (ty_ga T K A) (ty_gb T K B) (2 * T) r c →
      (f = 0 → ty_C T K A B c) → (¬ f = 0 → r + 1 ≤ ty_cnt (fun i => decide (c i = i)) (2 * T)) → wX_refreshClasses_16 post n f (nI r) (nI T) pR cH cP stl cD vd eK eD eP stt oC tk sa sb gK gA gB cl nC dd dp dl dm pt cO cA cB cC cx cu st pd pp pa pf pv es ew qh qc qk qv ou cm := by
  intro n
  induction n with
  | zero => intro r f cl nC c h1 h2; omega
  | succ n ih =>
    intro r f cl nC c h1 h2 hc hr hf hk
    have hT := w.2.1
    have cb := ty_cnt_le (fun i => decide (c i = i)) (2 * T)
    have fin : f = 0 → post (nI T, pR, cH, cP, 0, cD, vd, eK, eD, eP, stt, oC, tk, sa, sb, gK, gA, gB, cl, nC, dd, dp, dl, dm, pt, cO, cA, cB, cC, cx, cu, st, pd, pp, pa, pf, pv, es, ew, qh, qc, qk, qv, ou, cm) := fun z => kk cl nC c (hf z) hc
    refine pk_le 33 r (fun z => ?_) (fun z => ?_)
    · by_cases y : f = 0
      · exact fin y
      · have := hk y; omega
    · refine br_c fin (fun y => ?_)
      have a := ty_ga_lt w
      have b := ty_gb_lt w
      refine wx_refineOnce w hg hc (fun j hj => by have := (hr j hj).1; omega) (fun f' cl' nC' c' q1 q2 q3 q4 => ?_)
      have hr' := ty_c_step a b hr q1
      refine nm_r (nI_1 r) (ih (r + 1) f' cl' nC' c' (by omega) (by omega) q2 hr' (fun z => ?_) (fun z => ?_))
      · exact ty_c_fix a b hr hr' (q3 z)
      · obtain ⟨m, m1, m2⟩ := q4 z
        have := ty_c_more hr hr' m1 m2
        have := hk y
        omega
theorem wx_refresh {post : SX → Prop} (w : ty_W T K A B) (ha : tt_A K A B tk sa sb) (hs : stl = 0 → ∃ c, ty_C T K A B c ∧ ∀ j, j < 2 * T → cl j = nI (c j))
    (kk : ∀ (gK gA gB cl nC : Nat → Int32) (c : Nat → Nat), ty_C T K A B c → (∀ j, j < 2 * T → cl j = nI (c j)) → post (nI T, pR, cH, cP, 0, cD, vd, eK, eD, eP, stt, oC, tk, sa, sb, gK, gA, gB, cl, nC, dd, dp, dl, dm, pt, cO, cA, cB, cC, cx, cu, st, pd, pp, pa, pf, pv, es, ew, qh, qc, qk, qv, ou, cm)) : wpX_refreshClasses post (nI T, pR, cH, cP, stl, cD, vd, eK, eD, eP, stt, oC, tk, sa, sb, gK, gA, gB, cl, nC, dd, dp, dl, dm, pt, cO, cA, cB, cC, cx, cu, st, pd, pp, pa, pf, pv, es, ew, qh, qc, qk, qv, ou, cm) := by
  refine br_c (fun z => ?_) (fun z => ?_)
  · obtain ⟨c, c1, c2⟩ := hs z
    rw [z]
    exact kk gK gA gB cl nC c c1 c2
  · refine wx_buildGraph w ha (fun gK gA gB cl I => ?_)
    have hT := w.1
    have hg : gg_A T K A B gK gA gB := fun j hj => ⟨I.1 j ⟨hj, by omega⟩, I.2.1 j ⟨hj, by omega⟩, I.2.2.1 j ⟨hj, by omega⟩⟩
    refine ⟨34, wx_rc16 w hg (fun cl nC c c1 c2 => kk gK gA gB cl nC c c1 c2) 34 0 1 cl nC (fun _ => 0) (by omega) (by omega) (fun j hj => I.2.2.2 j ⟨hj, by omega⟩) ty_c_0 (fun q => absurd q nu_10) (fun _ => ?_)⟩
    exact ty_cnt_pos (m := 0) (by omega) rfl
end WX3
end
section
section WY1
variable {tY pR cH cP cD vd eK eD eP stt mC oC : Int32} {tk sa sb eq du nx dd dp dl dm pt cd ct st yd yp ya yf hel mT mK mV ou eu ev : Nat → Int32}
/-! Y: the tables of equal and dual types -/
variable {T r : Nat} {K A B : Nat → Nat} {post : SY → Prop}
def tb (R : Nat → Nat → Prop) (a : Nat → Int32) (n : Nat) : Prop := ∀ w, w < n → (R (w / 16) (w % 16) → a w = 1) ∧ (¬ R (w / 16) (w % 16) → a w = 0)
theorem tb_at {R : Nat → Nat → Prop} {a : Nat → Int32} (h : tb R a 256) {t u : Nat} (ht : t < 16) (hu : u < 16) : (R t u → a (t * 16 + u) = 1) ∧ (¬ R t u → a (t * 16 + u) = 0) := by
  have := h (t * 16 + u) (by omega)
  rw [show (t * 16 + u) / 16 = t by omega, show (t * 16 + u) % 16 = u by omega] at this
  exact this
theorem tb_z {R : Nat → Nat → Prop} {a : Nat → Int32} (h : tb R a 256) {t u : Nat} (ht : t < 16) (hu : u < 16) : a (t * 16 + u) = 0 ↔ ¬ R t u := by
  have := tb_at h ht hu
  constructor
  · intro e q
    rw [this.1 q] at e
    exact absurd e (by decide)
  · exact this.2
theorem tb_01 {R : Nat → Nat → Prop} {a : Nat → Int32} {n : Nat} (h : tb R a n) {w : Nat} (hw : w < n) : a w = 0 ∨ a w = 1 := by
  by_cases q : R (w / 16) (w % 16)
  · exact Or.inr ((h w hw).1 q)
  · exact Or.inl ((h w hw).2 q)
theorem tb_s {R : Nat → Nat → Prop} {a : Nat → Int32} {w : Nat} {x : Int32} (h : tb R a w) (h1 : R (w / 16) (w % 16) → x = 1) (h0 : ¬ R (w / 16) (w % 16) → x = 0) : tb R (upd a w x) (w + 1) := by
  intro j hj
  by_cases e : j = w
  · rw [e, pk_us]; exact ⟨h1, h0⟩
  · rw [pk_un e]; exact h j (by omega)
theorem tb_iff {R : Nat → Nat → Prop} {a : Nat → Int32} {n : Nat} (h : tb R a n) {w : Nat} (hw : w < n) : a w = 1 ↔ R (w / 16) (w % 16) := by
  constructor
  · intro e
    refine Classical.byContradiction (fun q => ?_)
    rw [(h w hw).2 q] at e
    exact absurd e (by decide)
  · exact (h w hw).1
theorem wy_r122 {J33 : Int32 → Int32 → (Nat → Int32) → (Nat → Int32) → (Nat → Int32) → (Nat → Int32) → (Nat → Int32) → (Nat → Int32) → (Nat → Int32) → (Nat → Int32) → (Nat → Int32) → (Nat → Int32) → (Nat → Int32) → (Nat → Int32) → (Nat → Int32) → (Nat → Int32) → (Nat → Int32) → (Nat → Int32) → (Nat → Int32) → (Nat → Int32) → (Nat → Int32) → (Nat → Int32) → (Nat → Int32) → (Nat → Int32) → (Nat → Int32) → (Nat → Int32) → (Nat → Int32) → Prop} {J46 : Int32 → (Nat → Int32) → (Nat → Int32) → (Nat → Int32) → (Nat → Int32) → (Nat → Int32) → (Nat → Int32) → (Nat → Int32) → (Nat → Int32) → (Nat → Int32) → (Nat → Int32) → (Nat → Int32) → (Nat → Int32) → (Nat → Int32) → (Nat → Int32) → (Nat → Int32) → (Nat → Int32) → (Nat → Int32) → (Nat → Int32) → (Nat → Int32) → (Nat → Int32) → (Nat → Int32) → (Nat → Int32) → (Nat → Int32) → (Nat → Int32) → (Nat → Int32) → Prop} {x2 : Int32} {t u w : Nat} (W : ty_W T K A B) (ha : tt_A K A B tk sa sb) (ht : t < 16) (hu : u < 16) (hw : w < 256) (he : tb (ty_e K A B r) eq 256)
    (k1 : (K t < 3 ∨ ty_e K A B r (B t) (B u)) → J46 (nI (w + 1)) tk sa sb eq du (upd nx w 1) dd dp dl dm pt cd ct st yd yp ya yf hel mT mK mV ou eu ev) (k0 : ¬ (K t < 3 ∨ ty_e K A B r (B t) (B u)) → J46 (nI (w + 1)) tk sa sb eq du (upd nx w 0) dd dp dl dm pt cd ct st yd yp ya yf hel mT mK mV ou eu ev) :
    wY_relate_122 post J33 J46 x2 (nI w) (nI t) (nI u) (nI (K t)) (nI w) tY pR cH cP cD vd eK eD eP stt mC oC tk sa sb eq du nx dd dp dl dm pt cd ct st yd yp ya yf hel mT mK mV ou eu ev := by
  have i1 : vp_in (nI w) 256 := vp_in_nI hw (by decide)
  have i2 : vp_in (nI t) 16 := vp_in_nI ht (by decide)
  have i3 : vp_in (nI u) 16 := vp_in_nI hu (by decide)
  have wt := W.2.2 t ht
  have wu := W.2.2 u hu
  have hT := W.2.1
  unfold wY_relate_122
  rw [nI_clamp (show w < 2 ^ 31 by omega), nI_clamp (show t < 2 ^ 31 by omega), nI_clamp (show u < 2 ^ 31 by omega), (ha t ht).2.2, (ha u hu).2.2, nu_m16, nI_add, nI_clamp (show B t * 16 + B u < 2 ^ 31 by omega), nu_nar0, nu_nar1]
  refine pk_lt (K t) 3 (fun z => ⟨i1, nm_e (nm_r (nI_1 w) (k1 (Or.inl z)))⟩) (fun z => ⟨i2, i3, vp_in_nI (by omega) (by decide), ?_⟩)
  refine br_c (fun y => ⟨i1, nm_e (nm_r (nI_1 w) (k0 (fun q => ?_)))⟩) (fun y => ⟨i1, nm_e (nm_r (nI_1 w) (k1 (Or.inr ?_)))⟩)
  · exact (tb_z he (by omega) (by omega)).mp y (q.resolve_left (by omega))
  · exact Classical.byContradiction (fun q => y ((tb_z he (by omega) (by omega)).mpr q))
theorem wy_r46 {J33 : Int32 → Int32 → (Nat → Int32) → (Nat → Int32) → (Nat → Int32) → (Nat → Int32) → (Nat → Int32) → (Nat → Int32) → (Nat → Int32) → (Nat → Int32) → (Nat → Int32) → (Nat → Int32) → (Nat → Int32) → (Nat → Int32) → (Nat → Int32) → (Nat → Int32) → (Nat → Int32) → (Nat → Int32) → (Nat → Int32) → (Nat → Int32) → (Nat → Int32) → (Nat → Int32) → (Nat → Int32) → (Nat → Int32) → (Nat → Int32) → (Nat → Int32) → (Nat → Int32) → Prop} {x2 : Int32} (W : ty_W T K A B) (ha : tt_A K A B tk sa sb) (he : tb (ty_e K A B r) eq 256)
    (kk : ∀ nx : Nat → Int32, tb (ty_e K A B (r + 1)) nx 256 → ∃ m, wY_relate_170 post J33 x2 tY pR cH cP cD vd eK eD eP stt mC oC m 0 0 tk sa sb eq du nx dd dp dl dm pt cd ct st yd yp ya yf hel mT mK mV ou eu ev) :
    ∀ n w (nx : Nat → Int32), w ≤ 256 → 256 < n + w → tb (ty_e K A B (r + 1)) nx w → wY_relate_46 post J33 x2 tY pR cH cP cD vd eK eD eP stt mC oC n (nI w) tk sa sb eq du nx dd dp dl dm pt cd ct st yd yp ya yf hel mT mK mV ou eu ev := by
  intro n
  induction n with
  | zero => intro w nx h1 h2; omega
  | succ n ih =>
    intro w nx h1 h2 I
    by_cases h : w = 256
    · subst h; exact br_t (nI_le (a := 256) (b := 256) (by omega) (by decide)) (kk nx I)
    · have ht : w / 16 < 16 := by omega
      have hu : w % 16 < 16 := by omega
      have i1 : vp_in (nI w) 256 := vp_in_nI (by omega) (by decide)
      have i2 : vp_in (nI (w / 16)) 16 := vp_in_nI ht (by decide)
      have i3 : vp_in (nI (w % 16)) 16 := vp_in_nI hu (by decide)
      have wt := W.2.2 _ ht
      have wu := W.2.2 _ hu
      have hT := W.2.1
      have e1 : (nI (w / 16)).toNatClampNeg = w / 16 := nI_clamp (by omega)
      have e2 : (nI (w % 16)).toNatClampNeg = w % 16 := nI_clamp (by omega)
      have e3 : (nI w).toNatClampNeg = w := nI_clamp (by omega)
      have st : ∀ x : Int32, (ty_e K A B (r + 1) (w / 16) (w % 16) → x = 1) → (¬ ty_e K A B (r + 1) (w / 16) (w % 16) → x = 0) → wY_relate_46 post J33 x2 tY pR cH cP cD vd eK eD eP stt mC oC n (nI (w + 1)) tk sa sb eq du (upd nx w x) dd dp dl dm pt cd ct st yd yp ya yf hel mT mK mV ou eu ev :=
        fun x x1 x0 => ih (w + 1) _ (by omega) (by omega) (tb_s I x1 x0)
      refine br_f (nI_ge (b := 256) (by omega) (by decide)) ⟨by decide, nm_r (pk_div (d := 16) (by omega) (by omega) (by omega)) ⟨by decide, nm_r (pk_rem (d := 16) (by omega) (by omega) (by omega)) ⟨i2, nm_r (e' := nI (K (w / 16))) (by rw [e1]; exact (ha _ ht).1) ⟨i3, ?_⟩⟩⟩⟩
      rw [e1, e2, e3, (ha _ hu).1, (ha _ ht).2.1, (ha _ hu).2.1, nu_m16, nI_add, nI_clamp (show A (w / 16) * 16 + A (w % 16) < 2 ^ 31 by omega), nu_nar0]
      refine pk_eq _ _ (fun z => ?_) (fun z => ⟨i1, nm_e (nm_r (nI_1 w) (st 0 (fun q => absurd q.1 z) (fun _ => rfl)))⟩)
      refine pk_eq (K (w / 16)) 0 (fun y => ?_) (fun y => ⟨i2, i3, vp_in_nI (by omega) (by decide), ?_⟩)
      · exact wy_r122 W ha ht hu (by omega) he (fun q => st 1 (fun _ => rfl) (fun p => absurd ⟨z, Or.inl y, q⟩ p)) (fun q => st 0 (fun p => absurd p.2.2 q) (fun _ => rfl))
      · refine br_c (fun v => ⟨i1, nm_e (nm_r (nI_1 w) (st 0 (fun q => ?_) (fun _ => rfl)))⟩) (fun v => ?_)
        · exact absurd (q.2.1.resolve_left y) ((tb_z he (by omega) (by omega)).mp v)
        · have hv : ty_e K A B r (A (w / 16)) (A (w % 16)) := Classical.byContradiction (fun q => v ((tb_z he (by omega) (by omega)).mpr q))
          exact wy_r122 W ha ht hu (by omega) he (fun q => st 1 (fun _ => rfl) (fun p => absurd ⟨z, Or.inr hv, q⟩ p)) (fun q => st 0 (fun p => absurd p.2.2 q) (fun _ => rfl))
/-- the copy of one table over another, with the word whether anything changed -/
def cp_I (nx a0 : Nat → Int32) (i : Nat) (f : Int32) (a : Nat → Int32) : Prop := (f = 0 ∨ f = 1) ∧ (∀ j, j < i → a j = nx j) ∧ (∀ j, i ≤ j → a j = a0 j) ∧ (f = 0 → ∀ j, j < i → a0 j = nx j) ∧ (¬ f = 0 → ∃ j, j < i ∧ ¬ a0 j = nx j)
theorem cp_0 {nx a0 : Nat → Int32} : cp_I nx a0 0 0 a0 := ⟨Or.inl rfl, fun j h => absurd h (Nat.not_lt_zero j), fun _ _ => rfl, fun _ j h => absurd h (Nat.not_lt_zero j), fun z => absurd rfl z⟩
theorem cp_same {nx a0 a : Nat → Int32} {i : Nat} {f : Int32} (I : cp_I nx a0 i f a) (h : nx i = a i) : cp_I nx a0 (i + 1) f a := by
  obtain ⟨i1, i2, i3, i4, i5⟩ := I
  refine ⟨i1, fun j hj => ?_, fun j hj => i3 j (by omega), fun z j hj => ?_, fun z => ?_⟩
  · by_cases e : j = i
    · rw [e]; exact h.symm
    · exact i2 j (by omega)
  · by_cases e : j = i
    · rw [e, ← i3 i (Nat.le_refl _)]; exact h.symm
    · exact i4 z j (by omega)
  · obtain ⟨j, j1, j2⟩ := i5 z
    exact ⟨j, by omega, j2⟩
theorem cp_diff {nx a0 a : Nat → Int32} {i : Nat} {f : Int32} (I : cp_I nx a0 i f a) (h : ¬ nx i = a i) : cp_I nx a0 (i + 1) 1 (upd a i (nx i)) := by
  obtain ⟨i1, i2, i3, i4, i5⟩ := I
  refine ⟨Or.inr rfl, fun j hj => ?_, fun j hj => ?_, fun z => absurd z nu_10, fun _ => ⟨i, by omega, fun q => h ?_⟩⟩
  · by_cases e : j = i
    · rw [e, pk_us]
    · rw [pk_un e]; exact i2 j (by omega)
  · rw [pk_un (by omega)]; exact i3 j (by omega)
  · rw [i3 i (Nat.le_refl _)]; exact q.symm
theorem wy_r170 {J33 : Int32 → Int32 → (Nat → Int32) → (Nat → Int32) → (Nat → Int32) → (Nat → Int32) → (Nat → Int32) → (Nat → Int32) → (Nat → Int32) → (Nat → Int32) → (Nat → Int32) → (Nat → Int32) → (Nat → Int32) → (Nat → Int32) → (Nat → Int32) → (Nat → Int32) → (Nat → Int32) → (Nat → Int32) → (Nat → Int32) → (Nat → Int32) → (Nat → Int32) → (Nat → Int32) → (Nat → Int32) → (Nat → Int32) → (Nat → Int32) → (Nat → Int32) → (Nat → Int32) → Prop} {eq0 : Nat → Int32} (hn : ∀ j, j < 256 → nx j = 0 ∨ nx j = 1)
    (kk : ∀ (f : Int32) (eq : Nat → Int32), cp_I nx eq0 256 f eq → J33 f (nI (r + 1)) tk sa sb eq du nx dd dp dl dm pt cd ct st yd yp ya yf hel mT mK mV ou eu ev) :
    ∀ n w (f : Int32) (eq : Nat → Int32), w ≤ 256 → 256 < n + w → cp_I nx eq0 w f eq → wY_relate_170 post J33 (nI r) tY pR cH cP cD vd eK eD eP stt mC oC n f (nI w) tk sa sb eq du nx dd dp dl dm pt cd ct st yd yp ya yf hel mT mK mV ou eu ev := by
  intro n
  induction n with
  | zero => intro w f eq h1 h2; omega
  | succ n ih =>
    intro w f eq h1 h2 I
    by_cases h : w = 256
    · subst h; exact br_t (nI_le (a := 256) (b := 256) (by omega) (by decide)) (nm_r (nI_1 r) (kk f eq I))
    · have i1 : vp_in (nI w) 256 := vp_in_nI (by omega) (by decide)
      have e3 : (nI w).toNatClampNeg = w := nI_clamp (by omega)
      refine br_f (nI_ge (b := 256) (by omega) (by decide)) ⟨i1, i1, ?_⟩
      rw [e3, nu_nn (hn w (by omega))]
      exact br_c (fun z => nm_r (nI_1 w) (ih (w + 1) f eq (by omega) (by omega) (cp_same I z))) (fun z => ⟨i1, i1, nm_e (nm_r (nI_1 w) (ih (w + 1) 1 _ (by omega) (by omega) (cp_diff I z)))⟩)
theorem wy_r404 {J33 : Int32 → Int32 → (Nat → Int32) → (Nat → Int32) → (Nat → Int32) → (Nat → Int32) → (Nat → Int32) → (Nat → Int32) → (Nat → Int32) → (Nat → Int32) → (Nat → Int32) → (Nat → Int32) → (Nat → Int32) → (Nat → Int32) → (Nat → Int32) → (Nat → Int32) → (Nat → Int32) → (Nat → Int32) → (Nat → Int32) → (Nat → Int32) → (Nat → Int32) → (Nat → Int32) → (Nat → Int32) → (Nat → Int32) → (Nat → Int32) → (Nat → Int32) → (Nat → Int32) → Prop} {eq0 : Nat → Int32} (hn : ∀ j, j < 256 → nx j = 0 ∨ nx j = 1)
    (kk : ∀ (f : Int32) (du : Nat → Int32), cp_I nx eq0 256 f du → J33 f (nI (r + 1)) tk sa sb eq du nx dd dp dl dm pt cd ct st yd yp ya yf hel mT mK mV ou eu ev) :
    ∀ n w (f : Int32) (du : Nat → Int32), w ≤ 256 → 256 < n + w → cp_I nx eq0 w f du → wY_relate_404 post J33 (nI r) tY pR cH cP cD vd eK eD eP stt mC oC n f (nI w) tk sa sb eq du nx dd dp dl dm pt cd ct st yd yp ya yf hel mT mK mV ou eu ev := by
  intro n
  induction n with
  | zero => intro w f eq h1 h2; omega
  | succ n ih =>
    intro w f du h1 h2 I
    by_cases h : w = 256
    · subst h; exact br_t (nI_le (a := 256) (b := 256) (by omega) (by decide)) (nm_r (nI_1 r) (kk f du I))
    · have i1 : vp_in (nI w) 256 := vp_in_nI (by omega) (by decide)
      have e3 : (nI w).toNatClampNeg = w := nI_clamp (by omega)
      refine br_f (nI_ge (b := 256) (by omega) (by decide)) ⟨i1, i1, ?_⟩
      rw [e3, nu_nn (hn w (by omega))]
      exact br_c (fun z => nm_r (nI_1 w) (ih (w + 1) f du (by omega) (by omega) (cp_same I z))) (fun z => ⟨i1, i1, nm_e (nm_r (nI_1 w) (ih (w + 1) 1 _ (by omega) (by omega) (cp_diff I z)))⟩)
/-- one round of a falling table: what its end says -/
theorem tb_round {R R' : Nat → Nat → Prop} {a0 a nx : Nat → Int32} {f : Int32} (h0 : tb R a0 256) (hn : tb R' nx 256) (sub : ∀ t u, R' t u → R t u) (I : cp_I nx a0 256 f a) :
    tb R' a 256 ∧ (f = 0 → ∀ t u, t < 16 → u < 16 → R t u → R' t u) ∧ (¬ f = 0 → ty_cnt (fun w => decide (a w = 1)) 256 < ty_cnt (fun w => decide (a0 w = 1)) 256) := by
  obtain ⟨i1, i2, i3, i4, i5⟩ := I
  have ha : tb R' a 256 := fun w hw => by rw [i2 w hw]; exact hn w hw
  refine ⟨ha, fun z t u ht hu q => ?_, fun z => ?_⟩
  · have e := i4 z (t * 16 + u) (by omega)
    have e1 := (tb_at h0 ht hu).1 q
    refine Classical.byContradiction (fun p => ?_)
    rw [e1, (tb_at hn ht hu).2 p] at e
    exact absurd e (by decide)
  · obtain ⟨j, j1, j2⟩ := i5 z
    refine ty_cnt_lt 256 (fun i hi q => ?_) j j1 ?_ ?_
    · have q := of_decide_eq_true q
      exact decide_eq_true ((tb_iff h0 hi).mpr (sub _ _ ((tb_iff ha hi).mp q)))
    · refine decide_eq_false (fun q => j2 ?_)
      rw [(tb_iff h0 j1).mpr (sub _ _ ((tb_iff ha j1).mp q)), ← i2 j j1, q]
    · refine decide_eq_true ?_
      rcases tb_01 h0 j1 with q | q
      · refine absurd ?_ j2
        rw [q]
        have p : ¬ R (j / 16) (j % 16) := fun p => by rw [(h0 j j1).1 p] at q; exact absurd q (by decide)
        exact ((hn j j1).2 (fun s => p (sub _ _ s))).symm
      · exact q
end WY1
end
section
section WY2
variable {tY pR cH cP cD vd eK eD eP stt mC oC : Int32} {tk sa sb eq du nx dd dp dl dm pt cd ct st yd yp ya yf hel mT mK mV ou eu ev : Nat → Int32}
variable {T r : Nat} {K A B : Nat → Nat} {post : SY → Prop}
theorem ty_op_x : ∀ k, k < 7 → 0 < k → ((nI k - 1) ^^^ 1) + 1 = nI (ty_op k) := by decide +kernel
theorem ty_op_le : ∀ k, k < 7 → ty_op k < 8 := by decide
theorem wy_r33 (W : ty_W T K A B) (ha : tt_A K A B tk sa sb) (kk : ∀ eq nx : Nat → Int32, tb (ty_E K A B) eq 256 → ∃ m, wY_relate_222 post tY pR cH cP cD vd eK eD eP stt mC oC m 1 0 tk sa sb eq du nx dd dp dl dm pt cd ct st yd yp ya yf hel mT mK mV ou eu ev) :
    ∀ n r (f : Int32) (eq nx : Nat → Int32), r ≤ 257 → 257 < n + r → tb (ty_e K A B r) eq 256 → (f = 0 → tb (ty_E K A B) eq 256) → (¬ f = 0 → ty_cnt (fun w => decide (eq w = 1)) 256 + r ≤ 256) → wY_relate_33 post tY pR cH cP cD vd eK eD eP stt mC oC n f (nI r) tk sa sb eq du nx dd dp dl dm pt cd ct st yd yp ya yf hel mT mK mV ou eu ev := by
  intro n
  induction n with
  | zero => intro r f eq nx h1 h2; omega
  | succ n ih =>
    intro r f eq nx h1 h2 he hf hk
    refine br_c (fun z => kk eq nx (hf z)) (fun z => ?_)
    have hk := hk z
    refine br_f (nI_nlt (a := 256) (by omega) (by omega)) ⟨257, wy_r46 W ha he (fun nx hn => ⟨257, wy_r170 (eq0 := eq) (fun j hj => tb_01 hn hj) (fun f' eq' I => ?_) 257 0 0 eq (by omega) (by omega) cp_0⟩) 257 0 nx (by omega) (by omega) (fun w hw => absurd hw (Nat.not_lt_zero w))⟩
    obtain ⟨t1, t2, t3⟩ := tb_round he hn (fun t u q => ty_e_m r t u q) I
    refine ih (r + 1) f' eq' nx (by omega) (by omega) t1 (fun y => ?_) (fun y => ?_)
    · intro w hw
      have hT := W.2.1
      have q := t1 w hw
      have key : ty_e K A B (r + 1) (w / 16) (w % 16) ↔ ty_E K A B (w / 16) (w % 16) :=
        ⟨fun p => ty_e_all (fun i hi => by have := (W.2.2 i hi).2.1; omega) (fun i hi => by have := (W.2.2 i hi).2.2.1; omega) (t2 y) (by omega) (by omega) (ty_e_m _ _ _ p), fun p => p _⟩
      exact ⟨fun p => q.1 (key.mpr p), fun p => q.2 (fun s => p (key.mp s))⟩
    · have := t3 y; omega
theorem wy_r372 {J222 : Int32 → Int32 → (Nat → Int32) → (Nat → Int32) → (Nat → Int32) → (Nat → Int32) → (Nat → Int32) → (Nat → Int32) → (Nat → Int32) → (Nat → Int32) → (Nat → Int32) → (Nat → Int32) → (Nat → Int32) → (Nat → Int32) → (Nat → Int32) → (Nat → Int32) → (Nat → Int32) → (Nat → Int32) → (Nat → Int32) → (Nat → Int32) → (Nat → Int32) → (Nat → Int32) → (Nat → Int32) → (Nat → Int32) → (Nat → Int32) → (Nat → Int32) → (Nat → Int32) → Prop} {J235 : Int32 → (Nat → Int32) → (Nat → Int32) → (Nat → Int32) → (Nat → Int32) → (Nat → Int32) → (Nat → Int32) → (Nat → Int32) → (Nat → Int32) → (Nat → Int32) → (Nat → Int32) → (Nat → Int32) → (Nat → Int32) → (Nat → Int32) → (Nat → Int32) → (Nat → Int32) → (Nat → Int32) → (Nat → Int32) → (Nat → Int32) → (Nat → Int32) → (Nat → Int32) → (Nat → Int32) → (Nat → Int32) → (Nat → Int32) → (Nat → Int32) → (Nat → Int32) → Prop} {x2 : Int32} {t u w : Nat} (hw : w < 256) (W : ty_W T K A B) (ht : t < 16) (hu : u < 16) (hd : tb (ty_d K A B r) du 256)
    (k1 : (K t < 5 ∨ ty_d K A B r (B t) (B u)) → J235 (nI (w + 1)) tk sa sb eq du (upd nx w 1) dd dp dl dm pt cd ct st yd yp ya yf hel mT mK mV ou eu ev) (k0 : ¬ (K t < 5 ∨ ty_d K A B r (B t) (B u)) → J235 (nI (w + 1)) tk sa sb eq du (upd nx w 0) dd dp dl dm pt cd ct st yd yp ya yf hel mT mK mV ou eu ev) :
    wY_relate_372 post J222 J235 x2 (nI w) (nI (K t)) (nI (B t * 16 + B u)) (nI w) tY pR cH cP cD vd eK eD eP stt mC oC tk sa sb eq du nx dd dp dl dm pt cd ct st yd yp ya yf hel mT mK mV ou eu ev := by
  have i1 : vp_in (nI w) 256 := vp_in_nI hw (by decide)
  have wt := W.2.2 t ht
  have wu := W.2.2 u hu
  have hT := W.2.1
  unfold wY_relate_372
  rw [nI_clamp (show w < 2 ^ 31 by omega), nI_clamp (show B t * 16 + B u < 2 ^ 31 by omega), nu_nar0, nu_nar1]
  refine pk_lt (K t) 5 (fun z => ⟨i1, nm_e (nm_r (nI_1 w) (k1 (Or.inl z)))⟩) (fun z => ⟨vp_in_nI (by omega) (by decide), ?_⟩)
  refine br_c (fun y => ⟨i1, nm_e (nm_r (nI_1 w) (k0 (fun q => ?_)))⟩) (fun y => ⟨i1, nm_e (nm_r (nI_1 w) (k1 (Or.inr ?_)))⟩)
  · exact (tb_z hd (by omega) (by omega)).mp y (q.resolve_left (by omega))
  · exact Classical.byContradiction (fun q => y ((tb_z hd (by omega) (by omega)).mpr q))
theorem wy_r350 {J222 : Int32 → Int32 → (Nat → Int32) → (Nat → Int32) → (Nat → Int32) → (Nat → Int32) → (Nat → Int32) → (Nat → Int32) → (Nat → Int32) → (Nat → Int32) → (Nat → Int32) → (Nat → Int32) → (Nat → Int32) → (Nat → Int32) → (Nat → Int32) → (Nat → Int32) → (Nat → Int32) → (Nat → Int32) → (Nat → Int32) → (Nat → Int32) → (Nat → Int32) → (Nat → Int32) → (Nat → Int32) → (Nat → Int32) → (Nat → Int32) → (Nat → Int32) → (Nat → Int32) → Prop} {J235 : Int32 → (Nat → Int32) → (Nat → Int32) → (Nat → Int32) → (Nat → Int32) → (Nat → Int32) → (Nat → Int32) → (Nat → Int32) → (Nat → Int32) → (Nat → Int32) → (Nat → Int32) → (Nat → Int32) → (Nat → Int32) → (Nat → Int32) → (Nat → Int32) → (Nat → Int32) → (Nat → Int32) → (Nat → Int32) → (Nat → Int32) → (Nat → Int32) → (Nat → Int32) → (Nat → Int32) → (Nat → Int32) → (Nat → Int32) → (Nat → Int32) → (Nat → Int32) → Prop} {x2 : Int32} {t u w : Nat} (hw : w < 256) (W : ty_W T K A B) (ht : t < 16) (hu : u < 16) (he : tb (ty_E K A B) eq 256) (hd : tb (ty_d K A B r) du 256)
    (k1 : (((K t ≠ 3 ∧ K t ≠ 4) ∨ ty_E K A B (B t) (B u)) ∧ (K t < 5 ∨ ty_d K A B r (B t) (B u))) → J235 (nI (w + 1)) tk sa sb eq du (upd nx w 1) dd dp dl dm pt cd ct st yd yp ya yf hel mT mK mV ou eu ev) (k0 : ¬ (((K t ≠ 3 ∧ K t ≠ 4) ∨ ty_E K A B (B t) (B u)) ∧ (K t < 5 ∨ ty_d K A B r (B t) (B u))) → J235 (nI (w + 1)) tk sa sb eq du (upd nx w 0) dd dp dl dm pt cd ct st yd yp ya yf hel mT mK mV ou eu ev) :
    wY_relate_350 post J222 J235 x2 (nI w) (nI (K t)) (nI (B t * 16 + B u)) (nI w) tY pR cH cP cD vd eK eD eP stt mC oC tk sa sb eq du nx dd dp dl dm pt cd ct st yd yp ya yf hel mT mK mV ou eu ev := by
  have i1 : vp_in (nI w) 256 := vp_in_nI hw (by decide)
  have wt := W.2.2 t ht
  have wu := W.2.2 u hu
  have hT := W.2.1
  have hm : (K t = 3 ∨ K t = 4) → wY_relate_362 post J222 J235 x2 (nI w) (nI (K t)) (nI (B t * 16 + B u)) (nI w) tY pR cH cP cD vd eK eD eP stt mC oC tk sa sb eq du nx dd dp dl dm pt cd ct st yd yp ya yf hel mT mK mV ou eu ev := by
    intro z
    unfold wY_relate_362
    rw [nI_clamp (show w < 2 ^ 31 by omega), nI_clamp (show B t * 16 + B u < 2 ^ 31 by omega), nu_nar0]
    refine ⟨vp_in_nI (by omega) (by decide), br_c (fun y => ⟨i1, nm_e (nm_r (nI_1 w) (k0 (fun q => ?_)))⟩) (fun y => ?_)⟩
    · exact (tb_z he (by omega) (by omega)).mp y (q.1.resolve_left (by omega))
    · have hv : ty_E K A B (B t) (B u) := Classical.byContradiction (fun q => y ((tb_z he (by omega) (by omega)).mpr q))
      exact wy_r372 hw W ht hu hd (fun q => k1 ⟨Or.inr hv, q⟩) (fun q => k0 (fun p => q p.2))
  unfold wY_relate_350
  refine pk_eq (K t) 3 (fun z => hm (Or.inl z)) (fun z => pk_eq (K t) 4 (fun y => hm (Or.inr y)) (fun y => ?_))
  exact wy_r372 hw W ht hu hd (fun q => k1 ⟨Or.inl ⟨z, y⟩, q⟩) (fun q => k0 (fun p => q p.2))
theorem wy_r300 {J222 : Int32 → Int32 → (Nat → Int32) → (Nat → Int32) → (Nat → Int32) → (Nat → Int32) → (Nat → Int32) → (Nat → Int32) → (Nat → Int32) → (Nat → Int32) → (Nat → Int32) → (Nat → Int32) → (Nat → Int32) → (Nat → Int32) → (Nat → Int32) → (Nat → Int32) → (Nat → Int32) → (Nat → Int32) → (Nat → Int32) → (Nat → Int32) → (Nat → Int32) → (Nat → Int32) → (Nat → Int32) → (Nat → Int32) → (Nat → Int32) → (Nat → Int32) → (Nat → Int32) → Prop} {J235 : Int32 → (Nat → Int32) → (Nat → Int32) → (Nat → Int32) → (Nat → Int32) → (Nat → Int32) → (Nat → Int32) → (Nat → Int32) → (Nat → Int32) → (Nat → Int32) → (Nat → Int32) → (Nat → Int32) → (Nat → Int32) → (Nat → Int32) → (Nat → Int32) → (Nat → Int32) → (Nat → Int32) → (Nat → Int32) → (Nat → Int32) → (Nat → Int32) → (Nat → Int32) → (Nat → Int32) → (Nat → Int32) → (Nat → Int32) → (Nat → Int32) → (Nat → Int32) → Prop} {x2 : Int32} {t u w : Nat} (hw : w < 256) (W : ty_W T K A B) (ha : tt_A K A B tk sa sb) (ht : t < 16) (hu : u < 16) (he : tb (ty_E K A B) eq 256) (hd : tb (ty_d K A B r) du 256)
    (k1 : ty_d K A B (r + 1) t u → J235 (nI (w + 1)) tk sa sb eq du (upd nx w 1) dd dp dl dm pt cd ct st yd yp ya yf hel mT mK mV ou eu ev) (k0 : ¬ ty_d K A B (r + 1) t u → J235 (nI (w + 1)) tk sa sb eq du (upd nx w 0) dd dp dl dm pt cd ct st yd yp ya yf hel mT mK mV ou eu ev) :
    wY_relate_300 post J222 J235 x2 (nI w) (nI t) (nI u) (nI (K t)) (nI (B t * 16 + B u)) (nI (ty_op (K t))) tY pR cH cP cD vd eK eD eP stt mC oC tk sa sb eq du nx dd dp dl dm pt cd ct st yd yp ya yf hel mT mK mV ou eu ev := by
  have i1 : vp_in (nI w) 256 := vp_in_nI hw (by decide)
  have i2 : vp_in (nI t) 16 := vp_in_nI ht (by decide)
  have i3 : vp_in (nI u) 16 := vp_in_nI hu (by decide)
  have wt := W.2.2 t ht
  have wu := W.2.2 u hu
  have hT := W.2.1
  have ho := ty_op_le (K t) (by omega)
  unfold wY_relate_300
  rw [nI_clamp (show w < 2 ^ 31 by omega), nI_clamp (show t < 2 ^ 31 by omega), nI_clamp (show u < 2 ^ 31 by omega), (ha u hu).1, (ha t ht).2.1, (ha u hu).2.1, nu_m16, nI_add, nI_clamp (show A t * 16 + A u < 2 ^ 31 by omega), nu_nar0]
  refine ⟨i3, pk_eq _ _ (fun z => pk_eq (K t) 0 (fun y => ?_) (fun y => ⟨i2, i3, vp_in_nI (by omega) (by decide), br_c (fun v => ⟨i1, nm_e (nm_r (nI_1 w) (k0 (fun q => ?_)))⟩) (fun v => ?_)⟩)) (fun z => ⟨i1, nm_e (nm_r (nI_1 w) (k0 (fun q => z q.1)))⟩)⟩
  · exact wy_r350 hw W ht hu he hd (fun q => k1 ⟨z, Or.inl y, q.1, q.2⟩) (fun q => k0 (fun p => q ⟨p.2.2.1, p.2.2.2⟩))
  · exact (tb_z hd (by omega) (by omega)).mp v (q.2.1.resolve_left y)
  · have hv : ty_d K A B r (A t) (A u) := Classical.byContradiction (fun q => v ((tb_z hd (by omega) (by omega)).mpr q))
    exact wy_r350 hw W ht hu he hd (fun q => k1 ⟨z, Or.inr hv, q.1, q.2⟩) (fun q => k0 (fun p => q ⟨p.2.2.1, p.2.2.2⟩))
theorem wy_r235 {J222 : Int32 → Int32 → (Nat → Int32) → (Nat → Int32) → (Nat → Int32) → (Nat → Int32) → (Nat → Int32) → (Nat → Int32) → (Nat → Int32) → (Nat → Int32) → (Nat → Int32) → (Nat → Int32) → (Nat → Int32) → (Nat → Int32) → (Nat → Int32) → (Nat → Int32) → (Nat → Int32) → (Nat → Int32) → (Nat → Int32) → (Nat → Int32) → (Nat → Int32) → (Nat → Int32) → (Nat → Int32) → (Nat → Int32) → (Nat → Int32) → (Nat → Int32) → (Nat → Int32) → Prop} {x2 : Int32} (W : ty_W T K A B) (ha : tt_A K A B tk sa sb) (he : tb (ty_E K A B) eq 256) (hd : tb (ty_d K A B r) du 256)
    (kk : ∀ nx : Nat → Int32, tb (ty_d K A B (r + 1)) nx 256 → ∃ m, wY_relate_404 post J222 x2 tY pR cH cP cD vd eK eD eP stt mC oC m 0 0 tk sa sb eq du nx dd dp dl dm pt cd ct st yd yp ya yf hel mT mK mV ou eu ev) :
    ∀ n w (nx : Nat → Int32), w ≤ 256 → 256 < n + w → tb (ty_d K A B (r + 1)) nx w → wY_relate_235 post J222 x2 tY pR cH cP cD vd eK eD eP stt mC oC n (nI w) tk sa sb eq du nx dd dp dl dm pt cd ct st yd yp ya yf hel mT mK mV ou eu ev := by
  intro n
  induction n with
  | zero => intro w nx h1 h2; omega
  | succ n ih =>
    intro w nx h1 h2 I
    by_cases h : w = 256
    · subst h; exact br_t (nI_le (a := 256) (b := 256) (by omega) (by decide)) (kk nx I)
    · have ht : w / 16 < 16 := by omega
      have hu : w % 16 < 16 := by omega
      have i2 : vp_in (nI (w / 16)) 16 := vp_in_nI ht (by decide)
      have i3 : vp_in (nI (w % 16)) 16 := vp_in_nI hu (by decide)
      have wt := W.2.2 _ ht
      have wu := W.2.2 _ hu
      have hT := W.2.1
      have e1 : (nI (w / 16)).toNatClampNeg = w / 16 := nI_clamp (by omega)
      have e2 : (nI (w % 16)).toNatClampNeg = w % 16 := nI_clamp (by omega)
      have st1 : ty_d K A B (r + 1) (w / 16) (w % 16) → wY_relate_235 post J222 x2 tY pR cH cP cD vd eK eD eP stt mC oC n (nI (w + 1)) tk sa sb eq du (upd nx w 1) dd dp dl dm pt cd ct st yd yp ya yf hel mT mK mV ou eu ev :=
        fun q => ih (w + 1) _ (by omega) (by omega) (tb_s I (fun _ => rfl) (fun p => absurd q p))
      have st0 : ¬ ty_d K A B (r + 1) (w / 16) (w % 16) → wY_relate_235 post J222 x2 tY pR cH cP cD vd eK eD eP stt mC oC n (nI (w + 1)) tk sa sb eq du (upd nx w 0) dd dp dl dm pt cd ct st yd yp ya yf hel mT mK mV ou eu ev :=
        fun q => ih (w + 1) _ (by omega) (by omega) (tb_s I (fun p => absurd p q) (fun _ => rfl))
      refine br_f (nI_ge (b := 256) (by omega) (by decide)) ⟨by decide, nm_r (pk_div (d := 16) (by omega) (by omega) (by omega)) ⟨by decide, nm_r (pk_rem (d := 16) (by omega) (by omega) (by omega)) ⟨i2, nm_r (e' := nI (K (w / 16))) (by rw [e1]; exact (ha _ ht).1) ⟨i2, i3, nm_r (e' := nI (B (w / 16) * 16 + B (w % 16))) (by rw [e1, e2, (ha _ ht).2.2, (ha _ hu).2.2, nu_m16, nI_add]) ?_⟩⟩⟩⟩
      refine pk_eq (K (w / 16)) 0 (fun y => ?_) (fun y => ?_)
      · rw [show (0 : Int32) = nI (ty_op (K (w / 16))) by rw [y]; rfl]
        exact wy_r300 (show w < 256 by omega) W ha ht hu he hd st1 st0
      · rw [ty_op_x _ (by omega) (by omega)]
        exact wy_r300 (show w < 256 by omega) W ha ht hu he hd st1 st0
theorem wy_r222 (W : ty_W T K A B) (ha : tt_A K A B tk sa sb) (he : tb (ty_E K A B) eq 256) (kk : ∀ du nx : Nat → Int32, tb (ty_D K A B) du 256 → post (tY, pR, cH, cP, cD, vd, eK, eD, eP, stt, mC, oC, tk, sa, sb, eq, du, nx, dd, dp, dl, dm, pt, cd, ct, st, yd, yp, ya, yf, hel, mT, mK, mV, ou, eu, ev)) :
    ∀ n r (f : Int32) (du nx : Nat → Int32), r ≤ 257 → 257 < n + r → tb (ty_d K A B r) du 256 → (f = 0 → tb (ty_D K A B) du 256) → (¬ f = 0 → ty_cnt (fun w => decide (du w = 1)) 256 + r ≤ 256) → wY_relate_222 post tY pR cH cP cD vd eK eD eP stt mC oC n f (nI r) tk sa sb eq du nx dd dp dl dm pt cd ct st yd yp ya yf hel mT mK mV ou eu ev := by
  intro n
  induction n with
  | zero => intro r f du nx h1 h2; omega
  | succ n ih =>
    intro r f du nx h1 h2 hd hf hk
    refine br_c (fun z => kk du nx (hf z)) (fun z => ?_)
    have hk := hk z
    refine br_f (nI_nlt (a := 256) (by omega) (by omega)) ⟨257, wy_r235 W ha he hd (fun nx hn => ⟨257, wy_r404 (eq0 := du) (fun j hj => tb_01 hn hj) (fun f' du' I => ?_) 257 0 0 du (by omega) (by omega) cp_0⟩) 257 0 nx (by omega) (by omega) (fun w hw => absurd hw (Nat.not_lt_zero w))⟩
    obtain ⟨t1, t2, t3⟩ := tb_round hd hn (fun t u q => ty_d_m r t u q) I
    refine ih (r + 1) f' du' nx (by omega) (by omega) t1 (fun y => ?_) (fun y => ?_)
    · intro w hw
      have hT := W.2.1
      have q := t1 w hw
      have key : ty_d K A B (r + 1) (w / 16) (w % 16) ↔ ty_D K A B (w / 16) (w % 16) :=
        ⟨fun p => ty_d_all (fun i hi => by have := (W.2.2 i hi).2.1; omega) (fun i hi => by have := (W.2.2 i hi).2.2.1; omega) (t2 y) (by omega) (by omega) (ty_d_m _ _ _ p), fun p => p _⟩
      exact ⟨fun p => q.1 (key.mpr p), fun p => q.2 (fun s => p (key.mp s))⟩
    · have := t3 y; omega
theorem wy_r2 (W : ty_W T K A B) (ha : tt_A K A B tk sa sb) (kk : ∀ eq du nx : Nat → Int32, tb (ty_E K A B) eq 256 → tb (ty_D K A B) du 256 → post (tY, pR, cH, cP, cD, vd, eK, eD, eP, stt, mC, oC, tk, sa, sb, eq, du, nx, dd, dp, dl, dm, pt, cd, ct, st, yd, yp, ya, yf, hel, mT, mK, mV, ou, eu, ev)) :
    ∀ n w (eq du : Nat → Int32), w ≤ 256 → 256 < n + w → (∀ j, j < w → eq j = 1) → (∀ j, j < w → du j = 1) → wY_relate_2 post tY pR cH cP cD vd eK eD eP stt mC oC n (nI w) tk sa sb eq du nx dd dp dl dm pt cd ct st yd yp ya yf hel mT mK mV ou eu ev := by
  intro n
  induction n with
  | zero => intro w eq du h1 h2; omega
  | succ n ih =>
    intro w eq du h1 h2 I1 I2
    by_cases h : w = 256
    · subst h
      refine br_t (nI_le (a := 256) (b := 256) (by omega) (by decide)) ⟨258, wy_r33 W ha (fun eq nx he => ⟨258, wy_r222 W ha he (fun du nx hd => kk eq du nx he hd) 258 0 1 du nx (by omega) (by omega) ?_ (fun z => absurd z nu_10) (fun _ => ?_)⟩) 258 0 1 eq nx (by omega) (by omega) ?_ (fun z => absurd z nu_10) (fun _ => ?_)⟩
      · exact fun w hw => ⟨fun _ => I2 w hw, fun q => absurd trivial q⟩
      · rw [ty_cnt_all 256 (fun i hi => decide_eq_true (I2 i hi))]; exact Nat.le_refl _
      · exact fun w hw => ⟨fun _ => I1 w hw, fun q => absurd trivial q⟩
      · rw [ty_cnt_all 256 (fun i hi => decide_eq_true (I1 i hi))]; exact Nat.le_refl _
    · have i1 : vp_in (nI w) 256 := vp_in_nI (by omega) (by decide)
      have e3 : (nI w).toNatClampNeg = w := nI_clamp (by omega)
      refine br_f (nI_ge (b := 256) (by omega) (by decide)) ?_
      rw [e3, nu_nar1]
      have up : ∀ a : Nat → Int32, (∀ j, j < w → a j = 1) → ∀ j, j < w + 1 → upd a w 1 j = 1 := fun a ha j hj => by
        by_cases e : j = w
        · rw [e, pk_us]
        · rw [pk_un e]; exact ha j (by omega)
      exact ⟨i1, nm_e ⟨i1, nm_e (nm_r (nI_1 w) (ih (w + 1) _ _ (by omega) (by omega) (up _ I1) (up _ I2)))⟩⟩
theorem wy_relate (W : ty_W T K A B) (ha : tt_A K A B tk sa sb) (kk : ∀ eq du nx : Nat → Int32, tb (ty_E K A B) eq 256 → tb (ty_D K A B) du 256 → post (tY, pR, cH, cP, cD, vd, eK, eD, eP, stt, mC, oC, tk, sa, sb, eq, du, nx, dd, dp, dl, dm, pt, cd, ct, st, yd, yp, ya, yf, hel, mT, mK, mV, ou, eu, ev)) : wpY_relate post (tY, pR, cH, cP, cD, vd, eK, eD, eP, stt, mC, oC, tk, sa, sb, eq, du, nx, dd, dp, dl, dm, pt, cd, ct, st, yd, yp, ya, yf, hel, mT, mK, mV, ou, eu, ev) :=
  ⟨257, wy_r2 W ha kk 257 0 eq du (by omega) (by omega) (fun j h => absurd h (Nat.not_lt_zero j)) (fun j h => absurd h (Nat.not_lt_zero j))⟩
end WY2
end
section
section JDM
/-! the checker's rule as pure functions of a context g -/
noncomputable def cz (P : Prop) : Bool := @decide P (Classical.propDecidable P)
theorem cz_t {P : Prop} : cz P = true ↔ P := by unfold cz; exact @decide_eq_true_iff P (Classical.propDecidable P)
theorem cz_f {P : Prop} : ¬ cz P = true ↔ ¬ P := not_congr cz_t
/-- a sound context: 6 places, each -1 or a type -/
def cv (T : Nat) (g : Nat → Int32) : Prop := (∀ v, v < 6 → g v = -1 ∨ ∃ t, t < T ∧ g v = nI t) ∧ ∀ v, 6 ≤ v → g v = 0
def ld_P (T : Nat) (K A B : Nat → Nat) (t : Nat) (x : Int32) : Prop := (∃ u, u < T ∧ x = nI u ∧ ty_D K A B t u ∧ ∀ w, w < u → ¬ ty_D K A B t w) ∨ (x = -1 ∧ ∀ u, u < T → ¬ ty_D K A B t u)
theorem ld_ex (T : Nat) (K A B : Nat → Nat) (t : Nat) : ∃ x, ld_P T K A B t x := by
  by_cases h : ∃ u, u < T ∧ ty_D K A B t u
  · obtain ⟨u, hu⟩ := h
    obtain ⟨k, k0, k1, k2⟩ := tm_least (fun u => u < T ∧ ty_D K A B t u) u hu
    exact ⟨nI k, Or.inl ⟨k, k1.1, rfl, k1.2, fun w hw q => k2 w hw ⟨by omega, q⟩⟩⟩
  · exact ⟨-1, Or.inr ⟨rfl, fun u hu q => h ⟨u, hu, q⟩⟩⟩
noncomputable def ld (T : Nat) (K A B : Nat → Nat) (t : Nat) : Int32 := Classical.choose (ld_ex T K A B t)
theorem ld_s (T : Nat) (K A B : Nat → Nat) (t : Nat) : ld_P T K A B t (ld T K A B t) := Classical.choose_spec (ld_ex T K A B t)
theorem ld_u {T : Nat} {K A B : Nat → Nat} {t : Nat} {x : Int32} (h : ld_P T K A B t x) : ld T K A B t = x := by
  rcases ld_s T K A B t with ⟨u, u1, u2, u3, u4⟩ | ⟨u1, u2⟩
  · rcases h with ⟨w, w1, w2, w3, w4⟩ | ⟨w1, w2⟩
    · rw [u2, w2]
      rcases Nat.lt_trichotomy u w with l | l | l
      · exact absurd u3 (w4 u l)
      · rw [l]
      · exact absurd w3 (u4 w l)
    · exact absurd u3 (w2 u u1)
  · rcases h with ⟨w, w1, w2, w3, w4⟩ | ⟨w1, w2⟩
    · exact absurd w3 (u2 w w1)
    · rw [u1, w1]
theorem ld_v {T : Nat} {K A B : Nat → Nat} (t : Nat) : (∃ u, u < T ∧ ld T K A B t = nI u) ∨ ld T K A B t = -1 := by
  rcases ld_s T K A B t with ⟨u, u1, u2, _⟩ | ⟨u1, _⟩
  · exact Or.inl ⟨u, u1, u2⟩
  · exact Or.inr u1
section J
variable (T : Nat) (K A B : Nat → Nat) (dd dp pt : Nat → Int32)
/-- two types, as stored, are equal -/
def eq32 (x y : Int32) : Prop := ty_E K A B x.toNatClampNeg y.toNatClampNeg
def jz (g : Nat → Int32) (m d f : Nat) : Prop := ∀ v, v < 6 → bm_t m v = true → eq32 K A B (g v) (pt (d * 6 + (f + bm_c m v)))
noncomputable def jf (g : Nat → Int32) (m d f : Nat) : Nat := if dd d = 0 then 6 else if dp d = nI (f + bm_c m 6) then (if cz (jz K A B pt g m d f) = true then 0 else 7) else 6
noncomputable def je8 (g : Nat → Int32) (a b : Nat) : Nat := if a = b then 5 else if g a < 0 then 3 else if g b < 0 then 3 else if K (g a).toNatClampNeg = 3 then (if cz (eq32 K A B (g b) (nI (B (g a).toNatClampNeg))) = true then 0 else 7) else 7
def je9 (g : Nat → Int32) (a b : Nat) : Nat := if g a < 0 then 3 else if g b < 0 then (if K (g a).toNatClampNeg = 4 then 0 else 7) else 4
def jeS (g : Nat → Int32) (o a : Nat) : Nat := if g a < 0 then 3 else if K (g a).toNatClampNeg = (if o = 12 then 0 else o - 5) then 0 else 7
noncomputable def je13 (g : Nat → Int32) (a b c : Nat) : Nat := if g a < 0 then (if nI c &&& nI (jm g) = nI c then (if jf K A B dd dp pt g c b 1 = 0 then (if ld T K A B (pt (b * 6)).toNatClampNeg = -1 then 8 else 0) else jf K A B dd dp pt g c b 1) else 3) else 4
noncomputable def je14 (g : Nat → Int32) (a b c : Nat) : Nat := if a = b then 5 else if g a < 0 then (if g b < 0 then (if ld T K A B c = -1 then 8 else 0) else 4) else 4
noncomputable def je (g : Nat → Int32) (o a b c : Nat) : Nat :=
  if o = 0 then (if jm g = 0 then 0 else 9) else if o = 1 then jf K A B dd dp pt g (jm g) a 0 else if o < 6 then 0 else
  if o = 8 then je8 K A B g a b else if o = 9 then je9 K g a b else if o = 13 then je13 T K A B dd dp pt g a b c else if o = 14 then je14 T K A B g a b c else jeS K g o a
def jclr (g : Nat → Int32) (c n : Nat) : Nat → Int32 := fun v => if v < n ∧ bm_t c v = true then -1 else g v
noncomputable def jc (g : Nat → Int32) (o a b c : Nat) (s : Bool) : Nat → Int32 :=
  if o < 6 then g else if o = 8 then upd (upd g b (-1)) a (nI (A (g a).toNatClampNeg)) else if o = 9 then upd (upd g b (nI (B (g a).toNatClampNeg))) a (nI (A (g a).toNatClampNeg)) else
  if o = 10 then upd g a (if b = 1 then nI (B (g a).toNatClampNeg) else nI (A (g a).toNatClampNeg)) else if o = 11 then upd g a (if s = true then nI (B (g a).toNatClampNeg) else nI (A (g a).toNatClampNeg)) else
  if o = 12 then upd g a (-1) else if o = 13 then upd (jclr g c 6) a (ld T K A B (pt (b * 6)).toNatClampNeg) else if o = 14 then upd (upd g a (nI c)) b (ld T K A B c) else upd g a (nI (A (g a).toNatClampNeg))
/-- the operands that an instruction of this kind may hold -/
def co_ok (o : Nat) (x y z : Int32) : Prop := o < 15 ∧ (o = 1 → ∃ a, a < 6 ∧ x = nI a) ∧ (6 ≤ o → ∃ a, a < 6 ∧ x = nI a) ∧ ((o = 8 ∨ o = 9 ∨ o = 14) → ∃ b, b < 6 ∧ y = nI b) ∧ (o = 10 → y = 0 ∨ y = 1) ∧ (o = 13 → (∃ b, b < 6 ∧ y = nI b) ∧ ∃ m, m < 64 ∧ z = nI m) ∧ (o = 14 → ∃ t, t < T ∧ z = nI t)
end J
variable {T : Nat} {K A B : Nat → Nat} {dd dp pt g : Nat → Int32}
theorem jclr_0 {c : Nat} : jclr g c 0 = g := by funext v; unfold jclr; exact if_neg (by omega)
theorem jclr_y {c n : Nat} (h : bm_t c n = true) : upd (jclr g c n) n (-1) = jclr g c (n + 1) := by
  funext v
  by_cases e : v = n
  · rw [e, pk_us]; unfold jclr; rw [if_pos ⟨by omega, h⟩]
  · rw [pk_un e]; unfold jclr
    by_cases q : v < n ∧ bm_t c v = true
    · rw [if_pos q, if_pos ⟨by omega, q.2⟩]
    · rw [if_neg q, if_neg (fun p => q ⟨by omega, p.2⟩)]
theorem jclr_n {c n : Nat} (h : ¬ bm_t c n = true) : jclr g c n = jclr g c (n + 1) := by
  funext v; unfold jclr
  by_cases e : v = n
  · subst e; rw [if_neg (by omega), if_neg (fun p => h p.2)]
  · by_cases q : v < n ∧ bm_t c v = true
    · rw [if_pos q, if_pos ⟨by omega, q.2⟩]
    · rw [if_neg q, if_neg (fun p => q ⟨by omega, p.2⟩)]
theorem cv_in (h : cv T g) {v : Nat} (hv : v < 6) (hn : ¬ g v < 0) : ∃ t, t < T ∧ g v = nI t := by
  rcases h.1 v hv with z | z
  · rw [z] at hn; exact absurd nu_m1lt hn
  · exact z
theorem cv_lt (hT : T ≤ 16) (h : cv T g) {v : Nat} (hv : v < 6) (hn : g v < 0) : g v = -1 := by
  rcases h.1 v hv with z | ⟨t, _, z⟩
  · exact z
  · rw [z] at hn
    exact absurd hn (nI_pos (by omega))
theorem cv_u (h : cv T g) {a : Nat} {x : Int32} (ha : a < 6) (hx : x = -1 ∨ ∃ t, t < T ∧ x = nI t) : cv T (upd g a x) := by
  refine ⟨fun v hv => ?_, fun v hv => ?_⟩
  · by_cases e : v = a
    · rw [e, pk_us]; exact hx
    · rw [pk_un e]; exact h.1 v hv
  · rw [pk_un (by omega)]; exact h.2 v hv
theorem cv_clr (h : cv T g) (c : Nat) : cv T (jclr g c 6) := by
  refine ⟨fun v hv => ?_, fun v hv => ?_⟩
  · unfold jclr
    split
    · exact Or.inl rfl
    · exact h.1 v hv
  · unfold jclr; rw [if_neg (by omega)]; exact h.2 v hv
theorem cv_jc (w : ty_W T K A B) (h : cv T g) {o a b c : Nat} {s : Bool} (h6 : 6 ≤ o → a < 6) (hb : (o = 8 ∨ o = 9 ∨ o = 14) → b < 6) (hc : o = 14 → c < T) (ne : je T K A B dd dp pt g o a b c = 0) : cv T (jc T K A B pt g o a b c s) := by
  unfold jc
  by_cases o6 : o < 6
  · rw [if_pos o6]; exact h
  · rw [if_neg o6]
    have ha := h6 (by omega)
    unfold je at ne
    rw [if_neg (by omega), if_neg (by omega), if_neg o6] at ne
    have hAB : ¬ g a < 0 → (A (g a).toNatClampNeg < T ∧ B (g a).toNatClampNeg < T) := fun q => by
      obtain ⟨t, t1, t2⟩ := cv_in h ha q
      have hT := w.2.1
      rw [t2, nI_clamp (by omega)]
      have := w.2.2 t (by omega)
      exact ⟨this.2.1, this.2.2.1⟩
    by_cases o8 : o = 8
    · rw [if_pos o8] at ne ⊢
      have q : ¬ g a < 0 := fun q => by unfold je8 at ne; rw [if_pos q] at ne; split at ne <;> omega
      exact cv_u (cv_u h (hb (by omega)) (Or.inl rfl)) ha (Or.inr ⟨_, (hAB q).1, rfl⟩)
    · rw [if_neg o8] at ne ⊢
      by_cases o9 : o = 9
      · rw [if_pos o9] at ne ⊢
        have q : ¬ g a < 0 := fun q => by unfold je9 at ne; rw [if_pos q] at ne; omega
        exact cv_u (cv_u h (hb (by omega)) (Or.inr ⟨_, (hAB q).2, rfl⟩)) ha (Or.inr ⟨_, (hAB q).1, rfl⟩)
      · rw [if_neg o9] at ne ⊢
        by_cases o13 : o = 13
        · rw [if_pos o13] at ne
          rw [if_neg (by omega), if_neg (by omega), if_neg (by omega), if_pos o13]
          refine cv_u (cv_clr h c) ha ?_
          rcases ld_v (T := T) (K := K) (A := A) (B := B) (pt (b * 6)).toNatClampNeg with ⟨u, u1, u2⟩ | u
          · exact Or.inr ⟨u, u1, u2⟩
          · exact Or.inl u
        · rw [if_neg o13] at ne
          by_cases o14 : o = 14
          · rw [if_neg (by omega), if_neg (by omega), if_neg (by omega), if_neg o13, if_pos o14]
            refine cv_u (cv_u h ha (Or.inr ⟨c, hc o14, rfl⟩)) (hb (by omega)) ?_
            rcases ld_v (T := T) (K := K) (A := A) (B := B) c with ⟨u, u1, u2⟩ | u
            · exact Or.inr ⟨u, u1, u2⟩
            · exact Or.inl u
          · rw [if_neg o14] at ne
            have q : ¬ g a < 0 := fun q => by unfold jeS at ne; rw [if_pos q] at ne; omega
            have hx : ∀ x : Int32, x = nI (B (g a).toNatClampNeg) ∨ x = nI (A (g a).toNatClampNeg) → (x = -1 ∨ ∃ t, t < T ∧ x = nI t) := fun x hx => by
              rcases hx with hx | hx
              · exact Or.inr ⟨_, (hAB q).2, hx⟩
              · exact Or.inr ⟨_, (hAB q).1, hx⟩
            split
            · refine cv_u h ha (hx _ ?_); split
              · exact Or.inl rfl
              · exact Or.inr rfl
            · split
              · refine cv_u h ha (hx _ ?_); split
                · exact Or.inl rfl
                · exact Or.inr rfl
              · split
                · exact cv_u h ha (Or.inl rfl)
                · exact cv_u h ha (hx _ (Or.inr rfl))
end JDM
end
section
section WX4
variable {tY pR cH cP stl cD vd eK eD eP stt oC : Int32} {tk sa sb gK gA gB cl nC dd dp dl dm pt cO cA cB cC cx cu st pd pp pa pf pv es ew qh qc qk qv ou cm : Nat → Int32}
/-! X: the rules of the checker -/
variable {T : Nat} {K A B c : Nat → Nat}
/-- what the rules read: types, classes, parameters' types -/
def xr (T : Nat) (K A B c : Nat → Nat) (tk sa sb cl pt dp : Nat → Int32) : Prop := ty_W T K A B ∧ tt_A K A B tk sa sb ∧ ty_C T K A B c ∧ (∀ j, j < 2 * T → cl j = nI (c j)) ∧ (∀ j, j < 36 → ∃ t, t < T ∧ pt j = nI t) ∧ (∀ d, d < 6 → ∃ n, n ≤ 6 ∧ dp d = nI n)
theorem xr_c32 (h : xr T K A B c tk sa sb cl pt dp) {j : Nat} (hj : j < 2 * T) : c j < 32 := by
  have := (h.2.2.1 j hj).1; have := h.1.2.1; omega
theorem xr_eq (h : xr T K A B c tk sa sb cl pt dp) {t u : Nat} (ht : t < T) (hu : u < T) : cl t = cl u ↔ ty_E K A B t u := by
  rw [h.2.2.2.1 t (by omega), h.2.2.2.1 u (by omega), nI_eq (by have := xr_c32 h (j := t) (by omega); omega) (by have := xr_c32 h (j := u) (by omega); omega)]
  exact ty_C_E h.1 h.2.2.1 ht hu
theorem wx_ld {post : Int32 → Prop} (h : xr T K A B c tk sa sb cl pt dp) {t : Nat} (ht : t < T) (k : post (ld T K A B t)) : wpX_lowestDual post (nI T, pR, cH, cP, stl, cD, vd, eK, eD, eP, stt, oC, tk, sa, sb, gK, gA, gB, cl, nC, dd, dp, dl, dm, pt, cO, cA, cB, cC, cx, cu, st, pd, pp, pa, pf, pv, es, ew, qh, qc, qk, qv, ou, cm) (nI t) := by
  have hT := h.1.2.1
  have c1 := ty_C_ld h.1 h.2.2.1 ht
  have cb := xr_c32 h (j := T + t) (by omega)
  have e0 : nI T + nI t = nI (T + t) := nI_add T t
  have e1 : (nI (T + t)).toNatClampNeg = T + t := nI_clamp (by omega)
  refine ⟨by rw [e0]; exact vp_in_nI (by omega) (by decide), nm_r (e' := nI (c (T + t))) (by rw [e0, e1]; exact h.2.2.2.1 _ (by omega)) (pk_le T (c (T + t)) (fun z => ?_) (fun z => ?_))⟩
  · rw [ld_u (Or.inr ⟨rfl, fun u hu => c1.2.2 u hu (by omega)⟩)] at k; exact k
  · rw [ld_u (Or.inl ⟨c (T + t), z, rfl, c1.2.1 z, fun w hw => c1.2.2 w (by omega) hw⟩)] at k; exact k
theorem wx_af6 {post : Int32 → Prop} (h : xr T K A B c tk sa sb cl pt dp) (hcu : cv T cu) {m d f : Nat} (hm : m < 64) (hd : d < 6) (hf : f + bm_c m 6 ≤ 6) (hb : ∀ v, v < 6 → bm_t m v = true → ¬ cu v < 0)
    (k1 : jz K A B pt cu m d f → post 1) (k0 : ¬ jz K A B pt cu m d f → post 0) :
    ∀ n v, v ≤ 6 → 6 < n + v → (∀ w, w < v → bm_t m w = true → eq32 K A B (cu w) (pt (d * 6 + (f + bm_c m w)))) → wX_argumentsFit_6 post (nI m) (nI d) tY pR cH cP stl cD vd eK eD eP stt oC tk sa sb gK gA gB cl nC dd dp dl dm pt cO cA cB cC cx cu st pd pp pa pf pv es ew qh qc qk qv ou cm n (nI (f + bm_c m v)) (nI v) := by
  intro n
  induction n with
  | zero => intro v h1 h2; omega
  | succ n ih =>
    intro v h1 h2 I
    have hT := h.1.2.1
    by_cases e : v = 6
    · subst e; exact br_t (nI_le (a := 6) (b := 6) (by omega) (by decide)) (k1 I)
    · refine br_f (nI_ge (b := 6) (by omega) (by decide)) ?_
      have cm : bm_c m (v + 1) ≤ bm_c m 6 := by
        have := bm_c_mono m (v + 1) (6 - (v + 1))
        rw [show v + 1 + (6 - (v + 1)) = 6 by omega] at this
        exact this
      have cs : bm_c m (v + 1) = bm_c m v + bm_n m v := rfl
      by_cases z : bm_t m v = true
      · have cs : bm_c m (v + 1) = bm_c m v + 1 := by rw [cs]; unfold bm_n; rw [if_pos z]
        refine br_t ((bm_b1 (by omega) hm).mpr z) (br_f (nI_ge (b := 6) (by omega) (by decide)) ?_)
        obtain ⟨t, t1, t2⟩ := cv_in hcu (v := v) (by omega) (hb v (by omega) z)
        obtain ⟨s, s1, s2⟩ := h.2.2.2.2.1 (d * 6 + (f + bm_c m v)) (by omega)
        have e0 : nI d * 6 + nI (f + bm_c m v) = nI (d * 6 + (f + bm_c m v)) := by rw [nu_m6, nI_add]
        rw [e0, nI_clamp (show v < 2 ^ 31 by omega), nI_clamp (show d * 6 + (f + bm_c m v) < 2 ^ 31 by omega), t2, s2, nI_clamp (show t < 2 ^ 31 by omega), nI_clamp (show s < 2 ^ 31 by omega)]
        refine ⟨vp_in_nI (by omega) (by decide), vp_in_nI (by omega) (by decide), vp_in_nI (by omega) (by decide), vp_in_nI (by omega) (by decide), br_c (fun q => ?_) (fun q => k0 (fun p => q ?_))⟩
        · refine nm_r (e' := nI (f + bm_c m (v + 1))) (by rw [nI_1, cs]; rfl) (nm_r (nI_1 v) (ih (v + 1) (by omega) (by omega) (fun w hw tw => ?_)))
          by_cases ew : w = v
          · rw [ew, t2, s2]; unfold eq32; rw [nI_clamp (by omega), nI_clamp (by omega)]
            exact (xr_eq h t1 s1).mp q
          · exact I w (by omega) tw
        · have := p v (by omega) z
          rw [t2, s2] at this; unfold eq32 at this; rw [nI_clamp (by omega), nI_clamp (by omega)] at this
          exact (xr_eq h t1 s1).mpr this
      · have cs : bm_c m (v + 1) = bm_c m v := by rw [cs]; unfold bm_n; rw [if_neg z]; rfl
        refine br_f (fun q => z ((bm_b1 (by omega) hm).mp q)) (nm_r (nI_1 v) ?_)
        rw [← cs]
        exact ih (v + 1) (by omega) (by omega) (fun w hw tw => by
          by_cases ew : w = v
          · rw [ew] at tw; exact absurd tw z
          · exact I w (by omega) tw)
theorem wx_fit {post : Int32 → Prop} (h : xr T K A B c tk sa sb cl pt dp) (hcu : cv T cu) {m d f : Nat} (hm : m < 64) (hd : d < 6) (hf : f + bm_c m 6 ≤ 6) (hb : ∀ v, v < 6 → bm_t m v = true → ¬ cu v < 0)
    (k1 : jz K A B pt cu m d f → post 1) (k0 : ¬ jz K A B pt cu m d f → post 0) : wpX_argumentsFit post (tY, pR, cH, cP, stl, cD, vd, eK, eD, eP, stt, oC, tk, sa, sb, gK, gA, gB, cl, nC, dd, dp, dl, dm, pt, cO, cA, cB, cC, cx, cu, st, pd, pp, pa, pf, pv, es, ew, qh, qc, qk, qv, ou, cm) (nI m) (nI d) (nI f) :=
  ⟨7, wx_af6 h hcu hm hd hf hb k1 k0 7 0 (by omega) (by omega) (fun w hw => absurd hw (Nat.not_lt_zero w))⟩
theorem jm_b {g : Nat → Int32} {v : Nat} (hv : v < 6) : bm_t (jm g) v = true ↔ ¬ g v < 0 := by
  unfold jm; rw [bm_m_tb _ 6 v hv]; unfold cx_b; exact decide_eq_true_iff
theorem jm_64 (g : Nat → Int32) : jm g < 64 := bm_m_64 _
theorem wx_ruleJump {post : Int32 → Prop} (h : xr T K A B c tk sa sb cl pt dp) (hcu : cv T cu) {d : Nat} (hd : d < 6) (k : post (nI (jf K A B dd dp pt cu (jm cu) d 0))) : wpX_ruleJump post (tY, pR, cH, cP, stl, cD, vd, eK, eD, eP, stt, oC, tk, sa, sb, gK, gA, gB, cl, nC, dd, dp, dl, dm, pt, cO, cA, cB, cC, cx, cu, st, pd, pp, pa, pf, pv, es, ew, qh, qc, qk, qv, ou, cm) (nI d) := by
  have hm := jm_64 cu
  have e1 : (nI d).toNatClampNeg = d := nI_clamp (by omega)
  have i1 : vp_in (nI d) 6 := vp_in_nI hd (by decide)
  have cb := bm_c_le (jm cu) 6
  obtain ⟨n, n1, n2⟩ := h.2.2.2.2.2 d hd
  unfold jf at k
  rw [Nat.zero_add] at k
  refine wx_contextMask (wx_countBits hm ⟨i1, ?_⟩)
  rw [e1]
  refine br_c (fun z => ?_) (fun z => ⟨i1, br_c (fun y => ?_) (fun y => ?_)⟩)
  · rw [if_pos z] at k; exact k
  · rw [if_neg z, if_pos y] at k
    refine wx_fit (f := 0) h hcu hm hd (by omega) (fun v hv => (jm_b hv).mp) (fun q => ?_) (fun q => ?_)
    · rw [if_pos (cz_t.mpr q)] at k; exact br_f nu_10 k
    · rw [if_neg (cz_f.mpr q)] at k; exact br_t rfl k
  · rw [if_neg z, if_neg y] at k; exact k
theorem wx_needKind {post : Int32 → Prop} (h : xr T K A B c tk sa sb cl pt dp) (hcu : cv T cu) {a kd : Nat} (ha : a < 6) (hk : kd < 7)
    (k3 : cu a < 0 → post 3) (k0 : ¬ cu a < 0 → K (cu a).toNatClampNeg = kd → post 0) (k7 : ¬ cu a < 0 → ¬ K (cu a).toNatClampNeg = kd → post 7) : wpX_needKind post (tY, pR, cH, cP, stl, cD, vd, eK, eD, eP, stt, oC, tk, sa, sb, gK, gA, gB, cl, nC, dd, dp, dl, dm, pt, cO, cA, cB, cC, cx, cu, st, pd, pp, pa, pf, pv, es, ew, qh, qc, qk, qv, ou, cm) (nI a) (nI kd) := by
  have e1 : (nI a).toNatClampNeg = a := nI_clamp (by omega)
  have i1 : vp_in (nI a) 6 := vp_in_nI ha (by decide)
  have hT := h.1.2.1
  refine ⟨i1, ?_⟩
  rw [e1]
  by_cases z : cu a < 0
  · exact br_f (Int32.not_le.mpr z) (k3 z)
  · obtain ⟨t, t1, t2⟩ := cv_in hcu ha z
    have k0 := k0 z
    have k7 := k7 z
    rw [t2, nI_clamp (by omega)] at k0 k7
    rw [t2, nI_clamp (by omega), (h.2.1 t (by omega)).1]
    have := (h.1.2.2 t (by omega)).1
    exact br_t (nI_pos' (by omega)) ⟨i1, vp_in_nI (by omega) (by decide), pk_eq _ _ k0 k7⟩
variable {post : Int32 → SX → Prop}
/-- a rule's end: the error, and the context changed if there is none -/
theorem wx_ruleInt (h : xr T K A B c tk sa sb cl pt dp) (hcu : cv T cu) {a kd : Nat} (ha : a < 6) (hk : kd < 7)
    (k3 : cu a < 0 → post 3 (tY, pR, cH, cP, stl, cD, vd, eK, eD, eP, stt, oC, tk, sa, sb, gK, gA, gB, cl, nC, dd, dp, dl, dm, pt, cO, cA, cB, cC, cx, cu, st, pd, pp, pa, pf, pv, es, ew, qh, qc, qk, qv, ou, cm)) (k0 : ¬ cu a < 0 → K (cu a).toNatClampNeg = kd → post 0 (tY, pR, cH, cP, stl, cD, vd, eK, eD, eP, stt, oC, tk, sa, sb, gK, gA, gB, cl, nC, dd, dp, dl, dm, pt, cO, cA, cB, cC, cx, upd cu a (nI (A (cu a).toNatClampNeg)), st, pd, pp, pa, pf, pv, es, ew, qh, qc, qk, qv, ou, cm)) (k7 : ¬ cu a < 0 → ¬ K (cu a).toNatClampNeg = kd → post 7 (tY, pR, cH, cP, stl, cD, vd, eK, eD, eP, stt, oC, tk, sa, sb, gK, gA, gB, cl, nC, dd, dp, dl, dm, pt, cO, cA, cB, cC, cx, cu, st, pd, pp, pa, pf, pv, es, ew, qh, qc, qk, qv, ou, cm)) : wpX_ruleInt post (tY, pR, cH, cP, stl, cD, vd, eK, eD, eP, stt, oC, tk, sa, sb, gK, gA, gB, cl, nC, dd, dp, dl, dm, pt, cO, cA, cB, cC, cx, cu, st, pd, pp, pa, pf, pv, es, ew, qh, qc, qk, qv, ou, cm) (nI a) (nI kd) := by
  have e1 : (nI a).toNatClampNeg = a := nI_clamp (by omega)
  have i1 : vp_in (nI a) 6 := vp_in_nI ha (by decide)
  have hT := h.1.2.1
  unfold wpX_ruleInt
  dsimp only
  refine wx_needKind h hcu ha hk (fun z => br_f (by decide) (k3 z)) (fun z y => br_t rfl ⟨i1, ?_⟩) (fun z y => br_f (by decide) (k7 z y))
  obtain ⟨t, t1, t2⟩ := cv_in hcu ha z
  have k0 := k0 z y
  rw [t2, nI_clamp (by omega), ← (h.2.1 t (by omega)).2.1] at k0
  rw [e1, t2, nI_clamp (by omega)]
  exact ⟨vp_in_nI (by omega) (by decide), i1, nm_e k0⟩
theorem wx_ruleClose (h : xr T K A B c tk sa sb cl pt dp) (hcu : cv T cu) {a : Nat} (ha : a < 6)
    (k3 : cu a < 0 → post 3 (tY, pR, cH, cP, stl, cD, vd, eK, eD, eP, stt, oC, tk, sa, sb, gK, gA, gB, cl, nC, dd, dp, dl, dm, pt, cO, cA, cB, cC, cx, cu, st, pd, pp, pa, pf, pv, es, ew, qh, qc, qk, qv, ou, cm)) (k0 : ¬ cu a < 0 → K (cu a).toNatClampNeg = 0 → post 0 (tY, pR, cH, cP, stl, cD, vd, eK, eD, eP, stt, oC, tk, sa, sb, gK, gA, gB, cl, nC, dd, dp, dl, dm, pt, cO, cA, cB, cC, cx, upd cu a (-1), st, pd, pp, pa, pf, pv, es, ew, qh, qc, qk, qv, ou, cm)) (k7 : ¬ cu a < 0 → ¬ K (cu a).toNatClampNeg = 0 → post 7 (tY, pR, cH, cP, stl, cD, vd, eK, eD, eP, stt, oC, tk, sa, sb, gK, gA, gB, cl, nC, dd, dp, dl, dm, pt, cO, cA, cB, cC, cx, cu, st, pd, pp, pa, pf, pv, es, ew, qh, qc, qk, qv, ou, cm)) : wpX_ruleClose post (tY, pR, cH, cP, stl, cD, vd, eK, eD, eP, stt, oC, tk, sa, sb, gK, gA, gB, cl, nC, dd, dp, dl, dm, pt, cO, cA, cB, cC, cx, cu, st, pd, pp, pa, pf, pv, es, ew, qh, qc, qk, qv, ou, cm) (nI a) := by
  have e1 : (nI a).toNatClampNeg = a := nI_clamp (by omega)
  have i1 : vp_in (nI a) 6 := vp_in_nI ha (by decide)
  unfold wpX_ruleClose
  dsimp only
  refine wx_needKind (kd := 0) h hcu ha (by omega) (fun z => br_f (by decide) (k3 z)) (fun z y => br_t rfl ⟨i1, ?_⟩) (fun z y => br_f (by decide) (k7 z y))
  rw [e1]
  exact nm_e (k0 z y)
theorem wx_ruleSelect (h : xr T K A B c tk sa sb cl pt dp) (hcu : cv T cu) {a b : Nat} (ha : a < 6) (hb : b < 2)
    (k3 : cu a < 0 → post 3 (tY, pR, cH, cP, stl, cD, vd, eK, eD, eP, stt, oC, tk, sa, sb, gK, gA, gB, cl, nC, dd, dp, dl, dm, pt, cO, cA, cB, cC, cx, cu, st, pd, pp, pa, pf, pv, es, ew, qh, qc, qk, qv, ou, cm)) (k0 : ¬ cu a < 0 → K (cu a).toNatClampNeg = 5 → post 0 (tY, pR, cH, cP, stl, cD, vd, eK, eD, eP, stt, oC, tk, sa, sb, gK, gA, gB, cl, nC, dd, dp, dl, dm, pt, cO, cA, cB, cC, cx, upd cu a (if b = 1 then nI (B (cu a).toNatClampNeg) else nI (A (cu a).toNatClampNeg)), st, pd, pp, pa, pf, pv, es, ew, qh, qc, qk, qv, ou, cm)) (k7 : ¬ cu a < 0 → ¬ K (cu a).toNatClampNeg = 5 → post 7 (tY, pR, cH, cP, stl, cD, vd, eK, eD, eP, stt, oC, tk, sa, sb, gK, gA, gB, cl, nC, dd, dp, dl, dm, pt, cO, cA, cB, cC, cx, cu, st, pd, pp, pa, pf, pv, es, ew, qh, qc, qk, qv, ou, cm)) : wpX_ruleSelect post (tY, pR, cH, cP, stl, cD, vd, eK, eD, eP, stt, oC, tk, sa, sb, gK, gA, gB, cl, nC, dd, dp, dl, dm, pt, cO, cA, cB, cC, cx, cu, st, pd, pp, pa, pf, pv, es, ew, qh, qc, qk, qv, ou, cm) (nI a) (nI b) := by
  have e1 : (nI a).toNatClampNeg = a := nI_clamp (by omega)
  have i1 : vp_in (nI a) 6 := vp_in_nI ha (by decide)
  have hT := h.1.2.1
  unfold wpX_ruleSelect
  dsimp only
  refine wx_needKind (kd := 5) h hcu ha (by omega) (fun z => br_f (by decide) (k3 z)) (fun z y => br_t rfl ⟨i1, ?_⟩) (fun z y => br_f (by decide) (k7 z y))
  obtain ⟨t, t1, t2⟩ := cv_in hcu ha z
  have k0 := k0 z y
  rw [t2, nI_clamp (by omega), ← (h.2.1 t (by omega)).2.1, ← (h.2.1 t (by omega)).2.2] at k0
  rw [e1, t2]
  refine nm_e (pk_eq b 0 (fun q => ?_) (fun q => ?_))
  · rw [if_neg (by omega)] at k0
    refine ⟨vp_in_nI (by omega) (by decide), i1, ?_⟩
    rw [nI_clamp (show t < 2 ^ 31 by omega)]
    exact nm_e k0
  · rw [if_pos (by omega)] at k0
    refine ⟨vp_in_nI (by omega) (by decide), i1, ?_⟩
    rw [nI_clamp (show t < 2 ^ 31 by omega)]
    exact nm_e k0
theorem wx_ruleGive (h : xr T K A B c tk sa sb cl pt dp) (hcu : cv T cu) {a b : Nat} (ha : a < 6) (hb : b < 6)
    (k0 : je8 K A B cu a b = 0 → post 0 (tY, pR, cH, cP, stl, cD, vd, eK, eD, eP, stt, oC, tk, sa, sb, gK, gA, gB, cl, nC, dd, dp, dl, dm, pt, cO, cA, cB, cC, cx, upd (upd cu b (-1)) a (nI (A (cu a).toNatClampNeg)), st, pd, pp, pa, pf, pv, es, ew, qh, qc, qk, qv, ou, cm)) (k1 : ¬ je8 K A B cu a b = 0 → post (nI (je8 K A B cu a b)) (tY, pR, cH, cP, stl, cD, vd, eK, eD, eP, stt, oC, tk, sa, sb, gK, gA, gB, cl, nC, dd, dp, dl, dm, pt, cO, cA, cB, cC, cx, cu, st, pd, pp, pa, pf, pv, es, ew, qh, qc, qk, qv, ou, cm)) : wpX_ruleGive post (tY, pR, cH, cP, stl, cD, vd, eK, eD, eP, stt, oC, tk, sa, sb, gK, gA, gB, cl, nC, dd, dp, dl, dm, pt, cO, cA, cB, cC, cx, cu, st, pd, pp, pa, pf, pv, es, ew, qh, qc, qk, qv, ou, cm) (nI a) (nI b) := by
  have e1 : (nI a).toNatClampNeg = a := nI_clamp (by omega)
  have e2 : (nI b).toNatClampNeg = b := nI_clamp (by omega)
  have i1 : vp_in (nI a) 6 := vp_in_nI ha (by decide)
  have i2 : vp_in (nI b) 6 := vp_in_nI hb (by decide)
  have hT := h.1.2.1
  unfold je8 at k0 k1
  refine pk_eq a b (fun z => ?_) (fun z => ⟨i1, nm_r (e' := cu a) (by rw [e1]) ⟨i2, nm_r (e' := cu b) (by rw [e2]) (br_c (fun y => ?_) (fun y => ?_))⟩⟩)
  · rw [if_pos z] at k1; exact k1 (by decide)
  · rw [if_neg z, if_pos y] at k1; exact k1 (by decide)
  · rw [if_neg z, if_neg y] at k0 k1
    by_cases x : cu b < 0
    · rw [if_pos x] at k1
      exact br_f (Int32.not_le.mpr x) (k1 (by decide))
    · rw [if_neg x] at k0 k1
      obtain ⟨t, t1, t2⟩ := cv_in hcu ha y
      obtain ⟨u, u1, u2⟩ := cv_in hcu hb x
      have wt := h.1.2.2 t (by omega)
      refine br_t (Int32.not_lt.mp x) ?_
      rw [t2, u2, nI_clamp (show t < 2 ^ 31 by omega)] at k0 k1
      rw [t2, u2, nI_clamp (show t < 2 ^ 31 by omega), nI_clamp (show u < 2 ^ 31 by omega), (h.2.1 t (by omega)).1, (h.2.1 t (by omega)).2.1, (h.2.1 t (by omega)).2.2, nI_clamp (show B t < 2 ^ 31 by omega), e1, e2]
      have i3 : vp_in (nI t) 16 := vp_in_nI (by omega) (by decide)
      unfold eq32 at k0 k1
      rw [nI_clamp (show u < 2 ^ 31 by omega), nI_clamp (show B t < 2 ^ 31 by omega)] at k0 k1
      refine ⟨i3, pk_eq (K t) 3 (fun v => ⟨vp_in_nI (by omega) (by decide), i3, vp_in_nI (by omega) (by decide), br_c (fun q => ?_) (fun q => ?_)⟩) (fun v => ?_)⟩
      · have := (xr_eq h u1 wt.2.2.1).mp q
        rw [if_pos v, if_pos (cz_t.mpr this)] at k0
        exact ⟨i2, nm_e ⟨i3, i1, nm_e (k0 rfl)⟩⟩
      · rw [if_pos v, if_neg (cz_f.mpr (fun p => q ((xr_eq h u1 wt.2.2.1).mpr p)))] at k1
        exact k1 (by decide)
      · rw [if_neg v] at k1
        exact k1 (by decide)
theorem wx_ruleTake (h : xr T K A B c tk sa sb cl pt dp) (hcu : cv T cu) {a b : Nat} (ha : a < 6) (hb : b < 6)
    (k0 : je9 K cu a b = 0 → post 0 (tY, pR, cH, cP, stl, cD, vd, eK, eD, eP, stt, oC, tk, sa, sb, gK, gA, gB, cl, nC, dd, dp, dl, dm, pt, cO, cA, cB, cC, cx, upd (upd cu b (nI (B (cu a).toNatClampNeg))) a (nI (A (cu a).toNatClampNeg)), st, pd, pp, pa, pf, pv, es, ew, qh, qc, qk, qv, ou, cm)) (k1 : ¬ je9 K cu a b = 0 → post (nI (je9 K cu a b)) (tY, pR, cH, cP, stl, cD, vd, eK, eD, eP, stt, oC, tk, sa, sb, gK, gA, gB, cl, nC, dd, dp, dl, dm, pt, cO, cA, cB, cC, cx, cu, st, pd, pp, pa, pf, pv, es, ew, qh, qc, qk, qv, ou, cm)) : wpX_ruleTake post (tY, pR, cH, cP, stl, cD, vd, eK, eD, eP, stt, oC, tk, sa, sb, gK, gA, gB, cl, nC, dd, dp, dl, dm, pt, cO, cA, cB, cC, cx, cu, st, pd, pp, pa, pf, pv, es, ew, qh, qc, qk, qv, ou, cm) (nI a) (nI b) := by
  have e1 : (nI a).toNatClampNeg = a := nI_clamp (by omega)
  have e2 : (nI b).toNatClampNeg = b := nI_clamp (by omega)
  have i1 : vp_in (nI a) 6 := vp_in_nI ha (by decide)
  have i2 : vp_in (nI b) 6 := vp_in_nI hb (by decide)
  have hT := h.1.2.1
  unfold je9 at k0 k1
  refine ⟨i1, nm_r (e' := cu a) (by rw [e1]) ?_⟩
  by_cases y : cu a < 0
  · rw [if_pos y] at k1; exact br_f (Int32.not_le.mpr y) (k1 (by decide))
  · rw [if_neg y] at k0 k1
    obtain ⟨t, t1, t2⟩ := cv_in hcu ha y
    refine br_t (Int32.not_lt.mp y) ⟨i2, ?_⟩
    rw [e2]
    refine br_c (fun x => ?_) (fun x => ?_)
    · rw [if_pos x] at k0 k1
      have wt := h.1.2.2 t (by omega)
      have i3 : vp_in (nI t) 16 := vp_in_nI (by omega) (by decide)
      rw [t2, nI_clamp (show t < 2 ^ 31 by omega)] at k0 k1
      rw [t2, nI_clamp (show t < 2 ^ 31 by omega), (h.2.1 t (by omega)).1, (h.2.1 t (by omega)).2.1, (h.2.1 t (by omega)).2.2, e1]
      refine ⟨i3, pk_eq (K t) 4 (fun v => ?_) (fun v => ?_)⟩
      · rw [if_pos v] at k0
        exact ⟨i3, i2, nm_e ⟨i3, i1, nm_e (k0 rfl)⟩⟩
      · rw [if_neg v] at k1
        exact k1 (by decide)
    · rw [if_neg x] at k1
      exact k1 (by decide)
theorem wx_rs103 {a m : Nat} {x : Int32} (ha : a < 6) (hm : m < 64) (k : post 0 (tY, pR, cH, cP, stl, cD, vd, eK, eD, eP, stt, oC, tk, sa, sb, gK, gA, gB, cl, nC, dd, dp, dl, dm, pt, cO, cA, cB, cC, cx, upd (jclr cu m 6) a x, st, pd, pp, pa, pf, pv, es, ew, qh, qc, qk, qv, ou, cm)) : ∀ n v, v ≤ 6 → 6 < n + v → wX_ruleSpawn_103 post (nI a) (nI m) x tY pR cH cP stl cD vd eK eD eP stt oC n (nI v) tk sa sb gK gA gB cl nC dd dp dl dm pt cO cA cB cC cx (jclr cu m v) st pd pp pa pf pv es ew qh qc qk qv ou cm := by
  have e1 : (nI a).toNatClampNeg = a := nI_clamp (by omega)
  have i1 : vp_in (nI a) 6 := vp_in_nI ha (by decide)
  intro n
  induction n with
  | zero => intro v h1 h2; omega
  | succ n ih =>
    intro v h1 h2
    by_cases e : v = 6
    · subst e
      refine br_t (nI_le (a := 6) (b := 6) (by omega) (by decide)) ⟨i1, ?_⟩
      rw [e1]; exact nm_e k
    · refine br_f (nI_ge (b := 6) (by omega) (by decide)) ?_
      by_cases z : bm_t m v = true
      · refine br_t ((bm_b1 (by omega) hm).mpr z) ⟨vp_in_nI (by omega) (by decide), nm_r (e' := jclr cu m (v + 1)) (by rw [nI_clamp (by omega)]; exact jclr_y z) (nm_r (nI_1 v) (ih (v + 1) (by omega) (by omega)))⟩
      · refine br_f (fun q => z ((bm_b1 (by omega) hm).mp q)) (nm_r (nI_1 v) ?_)
        rw [jclr_n z]
        exact ih (v + 1) (by omega) (by omega)
theorem wx_ruleSpawn (h : xr T K A B c tk sa sb cl pt dp) (hcu : cv T cu) {a b m : Nat} (ha : a < 6) (hb : b < 6) (hm : m < 64)
    (k0 : je13 T K A B dd dp pt cu a b m = 0 → post 0 (nI T, pR, cH, cP, stl, cD, vd, eK, eD, eP, stt, oC, tk, sa, sb, gK, gA, gB, cl, nC, dd, dp, dl, dm, pt, cO, cA, cB, cC, cx, upd (jclr cu m 6) a (ld T K A B (pt (b * 6)).toNatClampNeg), st, pd, pp, pa, pf, pv, es, ew, qh, qc, qk, qv, ou, cm)) (k1 : ¬ je13 T K A B dd dp pt cu a b m = 0 → post (nI (je13 T K A B dd dp pt cu a b m)) (nI T, pR, cH, cP, stl, cD, vd, eK, eD, eP, stt, oC, tk, sa, sb, gK, gA, gB, cl, nC, dd, dp, dl, dm, pt, cO, cA, cB, cC, cx, cu, st, pd, pp, pa, pf, pv, es, ew, qh, qc, qk, qv, ou, cm)) : wpX_ruleSpawn post (nI T, pR, cH, cP, stl, cD, vd, eK, eD, eP, stt, oC, tk, sa, sb, gK, gA, gB, cl, nC, dd, dp, dl, dm, pt, cO, cA, cB, cC, cx, cu, st, pd, pp, pa, pf, pv, es, ew, qh, qc, qk, qv, ou, cm) (nI a) (nI b) (nI m) := by
  have e1 : (nI a).toNatClampNeg = a := nI_clamp (by omega)
  have e2 : (nI b).toNatClampNeg = b := nI_clamp (by omega)
  have i1 : vp_in (nI a) 6 := vp_in_nI ha (by decide)
  have i2 : vp_in (nI b) 6 := vp_in_nI hb (by decide)
  have hT := h.1.2.1
  have cb := bm_c_le m 6
  obtain ⟨n, n1, n2⟩ := h.2.2.2.2.2 b hb
  obtain ⟨p, p1, p2⟩ := h.2.2.2.2.1 (b * 6) (by omega)
  unfold je13 at k0 k1
  refine ⟨i1, ?_⟩
  rw [e1]
  refine br_c (fun z => ?_) (fun z => ?_)
  · rw [if_pos z] at k0 k1
    refine wx_contextMask ?_
    by_cases s : nI m &&& nI (jm cu) = nI m
    · rw [if_pos s] at k0 k1
      refine br_t ((bm_sub m hm _ (jm_64 cu)).mpr s) (wx_countBits hm ⟨i2, ?_⟩)
      rw [e2]
      unfold jf at k0 k1
      refine br_c (fun y => ?_) (fun y => ⟨i2, ?_⟩)
      · rw [if_pos y, if_neg (by decide)] at k1; exact k1 (by decide)
      · rw [if_neg y] at k0 k1
        rw [show (1 : Int32) + nI (bm_c m 6) = nI (1 + bm_c m 6) from nI_add 1 _]
        refine br_c (fun x => ?_) (fun x => ?_)
        · rw [if_pos x] at k0 k1
          have hn : 1 + bm_c m 6 ≤ 6 := by
            have : n = 1 + bm_c m 6 := (nI_eq (by omega) (by omega)).mp (n2.symm.trans x)
            omega
          refine wx_fit (f := 1) h hcu hm hb hn (fun v hv tv => ?_) (fun q => ?_) (fun q => ?_)
          · exact (jm_b hv).mp (bm_sub2 m hm _ (jm_64 cu) s v hv tv)
          · rw [if_pos (cz_t.mpr q), if_pos rfl] at k0 k1
            refine br_f nu_10 ?_
            have e3 : nI b * 6 = nI (b * 6) := nu_m6 b
            rw [p2, nI_clamp (show p < 2 ^ 31 by omega)] at k0 k1
            rw [e3, nI_clamp (show b * 6 < 2 ^ 31 by omega), p2]
            refine ⟨vp_in_nI (by omega) (by decide), wx_ld h p1 ?_⟩
            rcases ld_v (T := T) (K := K) (A := A) (B := B) p with ⟨u, u1, u2⟩ | u
            · rw [u2] at k0 ⊢
              rw [if_neg (nu_ne1 (by omega))] at k0
              refine br_t (nI_pos' (by omega)) ⟨7, ?_⟩
              have := wx_rs103 ha hm (k0 rfl) 7 0 (by omega) (by omega)
              rw [jclr_0] at this
              exact this
            · rw [u] at k1 ⊢
              rw [if_pos rfl] at k1
              exact br_f nu_m1le (k1 (by decide))
          · rw [if_neg (cz_f.mpr q), if_neg (by decide)] at k1
            exact br_t rfl (k1 (by decide))
        · rw [if_neg x, if_neg (by decide)] at k1; exact k1 (by decide)
    · rw [if_neg s] at k1
      exact br_f (fun q => s ((bm_sub m hm _ (jm_64 cu)).mp q)) (k1 (by decide))
  · rw [if_neg z] at k1; exact k1 (by decide)
theorem wx_ruleOpen (h : xr T K A B c tk sa sb cl pt dp) (hcu : cv T cu) {a b t : Nat} (ha : a < 6) (hb : b < 6) (ht : t < T)
    (k0 : je14 T K A B cu a b t = 0 → post 0 (nI T, pR, cH, cP, stl, cD, vd, eK, eD, eP, stt, oC, tk, sa, sb, gK, gA, gB, cl, nC, dd, dp, dl, dm, pt, cO, cA, cB, cC, cx, upd (upd cu a (nI t)) b (ld T K A B t), st, pd, pp, pa, pf, pv, es, ew, qh, qc, qk, qv, ou, cm)) (k1 : ¬ je14 T K A B cu a b t = 0 → post (nI (je14 T K A B cu a b t)) (nI T, pR, cH, cP, stl, cD, vd, eK, eD, eP, stt, oC, tk, sa, sb, gK, gA, gB, cl, nC, dd, dp, dl, dm, pt, cO, cA, cB, cC, cx, cu, st, pd, pp, pa, pf, pv, es, ew, qh, qc, qk, qv, ou, cm)) : wpX_ruleOpen post (nI T, pR, cH, cP, stl, cD, vd, eK, eD, eP, stt, oC, tk, sa, sb, gK, gA, gB, cl, nC, dd, dp, dl, dm, pt, cO, cA, cB, cC, cx, cu, st, pd, pp, pa, pf, pv, es, ew, qh, qc, qk, qv, ou, cm) (nI a) (nI b) (nI t) := by
  have e1 : (nI a).toNatClampNeg = a := nI_clamp (by omega)
  have e2 : (nI b).toNatClampNeg = b := nI_clamp (by omega)
  have i1 : vp_in (nI a) 6 := vp_in_nI ha (by decide)
  have i2 : vp_in (nI b) 6 := vp_in_nI hb (by decide)
  have hT := h.1.2.1
  unfold je14 at k0 k1
  refine pk_eq a b (fun z => ?_) (fun z => ⟨i1, ?_⟩)
  · rw [if_pos z] at k1; exact k1 (by decide)
  · rw [if_neg z] at k0 k1
    rw [e1]
    by_cases y : cu a < 0
    · rw [if_pos y] at k0 k1
      refine br_f (Int32.not_le.mpr y) ⟨i2, ?_⟩
      rw [e2]
      refine br_c (fun x => ?_) (fun x => ?_)
      · rw [if_pos x] at k0 k1
        refine wx_ld h ht ?_
        rcases ld_v (T := T) (K := K) (A := A) (B := B) t with ⟨u, u1, u2⟩ | u
        · rw [u2] at k0 ⊢
          rw [if_neg (nu_ne1 (by omega))] at k0
          exact br_t (nI_pos' (by omega)) ⟨i1, nm_e ⟨i2, nm_e (k0 rfl)⟩⟩
        · rw [u] at k1 ⊢
          rw [if_pos rfl] at k1
          exact br_f nu_m1le (k1 (by decide))
      · rw [if_neg x] at k1; exact k1 (by decide)
    · rw [if_neg y] at k1
      exact br_t (Int32.not_lt.mp y) (k1 (by decide))
end WX4
end
section
section WX5
variable {tY pR cH cP stl cD vd eK eD eP stt oC : Int32} {tk sa sb gK gA gB cl nC dd dp dl dm pt cO cA cB cC cx cu st pd pp pa pf pv es ew qh qc qk qv ou cm : Nat → Int32}
variable {T : Nat} {K A B c : Nat → Nat} {g : Nat → Int32} {a b d : Nat} {s : Bool}
theorem je_0 : je T K A B dd dp pt g 0 a b d = if jm g = 0 then 0 else 9 := by unfold je; rw [if_pos rfl]
theorem je_1 : je T K A B dd dp pt g 1 a b d = jf K A B dd dp pt g (jm g) a 0 := by unfold je; rw [if_neg (by decide), if_pos rfl]
theorem je_2 {o : Nat} (h2 : 2 ≤ o) (h6 : o < 6) : je T K A B dd dp pt g o a b d = 0 := by
  unfold je; rw [if_neg (by omega), if_neg (by omega), if_pos h6]
theorem je_8 : je T K A B dd dp pt g 8 a b d = je8 K A B g a b := by unfold je; rw [if_neg (by decide), if_neg (by decide), if_neg (by decide), if_pos rfl]
theorem je_9 : je T K A B dd dp pt g 9 a b d = je9 K g a b := by unfold je; rw [if_neg (by decide), if_neg (by decide), if_neg (by decide), if_neg (by decide), if_pos rfl]
theorem je_13 : je T K A B dd dp pt g 13 a b d = je13 T K A B dd dp pt g a b d := by unfold je; rw [if_neg (by decide), if_neg (by decide), if_neg (by decide), if_neg (by decide), if_neg (by decide), if_pos rfl]
theorem je_14 : je T K A B dd dp pt g 14 a b d = je14 T K A B g a b d := by unfold je; rw [if_neg (by decide), if_neg (by decide), if_neg (by decide), if_neg (by decide), if_neg (by decide), if_neg (by decide), if_pos rfl]
theorem je_S {o : Nat} (h : o = 6 ∨ o = 7 ∨ o = 10 ∨ o = 11 ∨ o = 12) : je T K A B dd dp pt g o a b d = jeS K g o a := by
  unfold je; rw [if_neg (by omega), if_neg (by omega), if_neg (by omega), if_neg (by omega), if_neg (by omega), if_neg (by omega), if_neg (by omega)]
theorem jc_lt {o : Nat} (h : o < 6) : jc T K A B pt g o a b d s = g := by unfold jc; rw [if_pos h]
theorem jc_6 {o : Nat} (h : o = 6 ∨ o = 7) : jc T K A B pt g o a b d s = upd g a (nI (A (g a).toNatClampNeg)) := by unfold jc; rw [if_neg (by omega), if_neg (by omega), if_neg (by omega), if_neg (by omega), if_neg (by omega), if_neg (by omega), if_neg (by omega), if_neg (by omega)]
theorem jc_8 : jc T K A B pt g 8 a b d s = upd (upd g b (-1)) a (nI (A (g a).toNatClampNeg)) := by unfold jc; rw [if_neg (by decide), if_pos rfl]
theorem jc_9 : jc T K A B pt g 9 a b d s = upd (upd g b (nI (B (g a).toNatClampNeg))) a (nI (A (g a).toNatClampNeg)) := by unfold jc; rw [if_neg (by decide), if_neg (by decide), if_pos rfl]
theorem jc_10 : jc T K A B pt g 10 a b d s = upd g a (if b = 1 then nI (B (g a).toNatClampNeg) else nI (A (g a).toNatClampNeg)) := by unfold jc; rw [if_neg (by decide), if_neg (by decide), if_neg (by decide), if_pos rfl]
theorem jc_11 : jc T K A B pt g 11 a b d s = upd g a (if s = true then nI (B (g a).toNatClampNeg) else nI (A (g a).toNatClampNeg)) := by unfold jc; rw [if_neg (by decide), if_neg (by decide), if_neg (by decide), if_neg (by decide), if_pos rfl]
theorem jc_12 : jc T K A B pt g 12 a b d s = upd g a (-1) := by unfold jc; rw [if_neg (by decide), if_neg (by decide), if_neg (by decide), if_neg (by decide), if_neg (by decide), if_pos rfl]
theorem jc_13 : jc T K A B pt g 13 a b d s = upd (jclr g d 6) a (ld T K A B (pt (b * 6)).toNatClampNeg) := by unfold jc; rw [if_neg (by decide), if_neg (by decide), if_neg (by decide), if_neg (by decide), if_neg (by decide), if_neg (by decide), if_pos rfl]
theorem jc_14 : jc T K A B pt g 14 a b d s = upd (upd g a (nI d)) b (ld T K A B d) := by unfold jc; rw [if_neg (by decide), if_neg (by decide), if_neg (by decide), if_neg (by decide), if_neg (by decide), if_neg (by decide), if_neg (by decide), if_pos rfl]
theorem jeS_3 {o : Nat} (h : g a < 0) : jeS K g o a = 3 := by unfold jeS; exact if_pos h
theorem jeS_0 {o : Nat} (h : ¬ g a < 0) (h2 : K (g a).toNatClampNeg = (if o = 12 then 0 else o - 5)) : jeS K g o a = 0 := by unfold jeS; rw [if_neg h, if_pos h2]
theorem jeS_7 {o : Nat} (h : ¬ g a < 0) (h2 : ¬ K (g a).toNatClampNeg = (if o = 12 then 0 else o - 5)) : jeS K g o a = 7 := by unfold jeS; rw [if_neg h, if_neg h2]
/-- the instruction at a place -/
def cn_i (cA : Nat → Int32) (i : Nat) : Nat := (cA i).toNatClampNeg
theorem wx_rule {post : Int32 → SX → Prop} (h : xr T K A B c tk sa sb cl pt dp) (hcu : cv T cu) {i o : Nat} (hi : i < 144) (hO : cO i = nI o) (ok : co_ok T o (cA i) (cB i) (cC i))
    (k0 : je T K A B dd dp pt cu o (cn_i cA i) (cn_i cB i) (cn_i cC i) = 0 → post 0 (nI T, pR, cH, cP, stl, cD, vd, eK, eD, eP, stt, oC, tk, sa, sb, gK, gA, gB, cl, nC, dd, dp, dl, dm, pt, cO, cA, cB, cC, cx, if o = 11 then cu else jc T K A B pt cu o (cn_i cA i) (cn_i cB i) (cn_i cC i) false, st, pd, pp, pa, pf, pv, es, ew, qh, qc, qk, qv, ou, cm))
    (k1 : ¬ je T K A B dd dp pt cu o (cn_i cA i) (cn_i cB i) (cn_i cC i) = 0 → post (nI (je T K A B dd dp pt cu o (cn_i cA i) (cn_i cB i) (cn_i cC i))) (nI T, pR, cH, cP, stl, cD, vd, eK, eD, eP, stt, oC, tk, sa, sb, gK, gA, gB, cl, nC, dd, dp, dl, dm, pt, cO, cA, cB, cC, cx, cu, st, pd, pp, pa, pf, pv, es, ew, qh, qc, qk, qv, ou, cm)) : wpX_applyRule post (nI T, pR, cH, cP, stl, cD, vd, eK, eD, eP, stt, oC, tk, sa, sb, gK, gA, gB, cl, nC, dd, dp, dl, dm, pt, cO, cA, cB, cC, cx, cu, st, pd, pp, pa, pf, pv, es, ew, qh, qc, qk, qv, ou, cm) (nI i) := by
  obtain ⟨o15, q1, q6, qb, q10, q13, q14⟩ := ok
  have e1 : (nI i).toNatClampNeg = i := nI_clamp (by omega)
  have i1 : vp_in (nI i) 144 := vp_in_nI hi (by decide)
  have hT := h.1.2.1
  refine ⟨i1, nm_r (e' := cA i) (by rw [e1]) ⟨i1, nm_r (e' := cB i) (by rw [e1]) ⟨i1, nm_r (e' := cC i) (by rw [e1]) ⟨i1, nm_r (e' := nI o) (by rw [e1]; exact hO) ?_⟩⟩⟩⟩
  refine br_f (nI_pos (by omega)) (br_f (nI_nlt (a := 14) (by omega) (by omega)) ?_)
  have simple : 2 ≤ o → o < 6 → post 0 (nI T, pR, cH, cP, stl, cD, vd, eK, eD, eP, stt, oC, tk, sa, sb, gK, gA, gB, cl, nC, dd, dp, dl, dm, pt, cO, cA, cB, cC, cx, cu, st, pd, pp, pa, pf, pv, es, ew, qh, qc, qk, qv, ou, cm) := fun z y => by
    have := k0 (je_2 z y)
    rw [if_neg (by omega), jc_lt y] at this
    exact this
  have cl1 : ∀ {x : Int32} {n : Nat}, n < 64 → x = nI n → x.toNatClampNeg = n := fun hn hx => by rw [hx, nI_clamp (by omega)]
  refine pk_eq o 0 (fun z => ?_) (fun z0 => pk_eq o 1 (fun z => ?_) (fun z1 => pk_eq o 2 (fun z => simple (by omega) (by omega)) (fun z2 => pk_eq o 3 (fun z => simple (by omega) (by omega)) (fun z3 => pk_eq o 4 (fun z => simple (by omega) (by omega)) (fun z4 => pk_eq o 5 (fun z => simple (by omega) (by omega)) (fun z5 => ?_))))))
  · subst z
    rw [je_0] at k0 k1
    refine wx_contextMask ?_
    show (nI (jm cu) = 0 → _) ∧ _
    refine pk_eq (jm cu) 0 (fun y => ?_) (fun y => ?_) rfl rfl (by have := jm_64 cu; omega) (by omega)
    · exact k0 (if_pos y)
    · rw [if_neg y] at k1; exact k1 (by decide)
  · subst z
    obtain ⟨a, a1, a2⟩ := q1 rfl
    rw [je_1] at k0 k1
    have e2 : cn_i cA i = a := cl1 (by omega) a2
    rw [e2] at k0 k1
    rw [a2]
    refine wx_ruleJump h hcu a1 ?_
    by_cases y : jf K A B dd dp pt cu (jm cu) a 0 = 0
    · rw [y]; exact k0 y
    · exact k1 y
  · obtain ⟨a, a1, a2⟩ := q6 (by omega)
    have e2 : cn_i cA i = a := cl1 (by omega) a2
    rw [e2] at k0 k1
    rw [a2]
    refine pk_eq o 6 (fun z => ?_) (fun z6 => pk_eq o 7 (fun z => ?_) (fun z7 => pk_eq o 8 (fun z => ?_) (fun z8 => pk_eq o 9 (fun z => ?_) (fun z9 => pk_eq o 10 (fun z => ?_) (fun z10 => pk_eq o 11 (fun z => ?_) (fun z11 => pk_eq o 12 (fun z => ?_) (fun z12 => pk_eq o 13 (fun z => ?_) (fun z13 => pk_eq o 14 (fun z => ?_) (fun z14 => absurd o15 (by omega))))))))))
    · subst z
      rw [je_S (by omega)] at k0 k1
      refine wx_ruleInt (kd := 1) h hcu a1 (by omega) (fun y => ?_) (fun y x => ?_) (fun y x => ?_)
      · rw [jeS_3 y] at k1; exact k1 (by decide)
      · exact k0 (jeS_0 y x)
      · rw [jeS_7 y x] at k1; exact k1 (by decide)
    · subst z
      rw [je_S (by omega)] at k0 k1
      refine wx_ruleInt (kd := 2) h hcu a1 (by omega) (fun y => ?_) (fun y x => ?_) (fun y x => ?_)
      · rw [jeS_3 y] at k1; exact k1 (by decide)
      · exact k0 (jeS_0 y x)
      · rw [jeS_7 y x] at k1; exact k1 (by decide)
    · subst z
      obtain ⟨b, b1, b2⟩ := qb (by omega)
      have e3 : cn_i cB i = b := cl1 (by omega) b2
      rw [je_8, e3] at k0 k1
      rw [b2]
      exact wx_ruleGive h hcu a1 b1 k0 k1
    · subst z
      obtain ⟨b, b1, b2⟩ := qb (by omega)
      have e3 : cn_i cB i = b := cl1 (by omega) b2
      rw [je_9, e3] at k0 k1
      rw [b2]
      exact wx_ruleTake h hcu a1 b1 k0 k1
    · subst z
      rw [je_S (by omega)] at k0 k1
      obtain ⟨b, b1, b2⟩ : ∃ b, b < 2 ∧ cB i = nI b := by
        rcases q10 rfl with y | y
        · exact ⟨0, by omega, y⟩
        · exact ⟨1, by omega, y⟩
      have e3 : cn_i cB i = b := cl1 (by omega) b2
      rw [e3] at k0
      rw [b2]
      refine wx_ruleSelect h hcu a1 b1 (fun y => ?_) (fun y x => ?_) (fun y x => ?_)
      · rw [jeS_3 y] at k1; exact k1 (by decide)
      · exact k0 (jeS_0 y x)
      · rw [jeS_7 y x] at k1; exact k1 (by decide)
    · subst z
      rw [je_S (by omega)] at k0 k1
      refine wx_needKind (kd := 6) h hcu a1 (by omega) (fun y => ?_) (fun y x => ?_) (fun y x => ?_)
      · rw [jeS_3 y] at k1; exact k1 (by decide)
      · exact k0 (jeS_0 y x)
      · rw [jeS_7 y x] at k1; exact k1 (by decide)
    · subst z
      rw [je_S (by omega)] at k0 k1
      refine wx_ruleClose h hcu a1 (fun y => ?_) (fun y x => ?_) (fun y x => ?_)
      · rw [jeS_3 y] at k1; exact k1 (by decide)
      · exact k0 (jeS_0 y x)
      · rw [jeS_7 y x] at k1; exact k1 (by decide)
    · subst z
      obtain ⟨⟨b, b1, b2⟩, m, m1, m2⟩ := q13 rfl
      have e3 : cn_i cB i = b := cl1 (by omega) b2
      have e4 : cn_i cC i = m := cl1 (by omega) m2
      rw [je_13, e3, e4] at k0 k1
      rw [b2, m2]
      exact wx_ruleSpawn h hcu a1 b1 m1 k0 k1
    · subst z
      obtain ⟨b, b1, b2⟩ := qb (by omega)
      obtain ⟨t, t1, t2⟩ := q14 rfl
      have e3 : cn_i cB i = b := cl1 (by omega) b2
      have e4 : cn_i cC i = t := cl1 (by omega) t2
      rw [je_14, e3, e4] at k0 k1
      rw [b2, t2]
      exact wx_ruleOpen h hcu a1 b1 t1 k0 k1
end WX5
end
section
section WY3
variable {tY pR cH cP cD vd eK eD eP stt mC oC : Int32} {tk sa sb eq du nx dd dp dl dm pt cd ct st yd yp ya yf hel mT mK mV ou eu ev : Nat → Int32}
/-! Y: small tests, the rules of the checker -/
variable {T : Nat} {K A B : Nat → Nat}
section small
variable {post : Int32 → Prop}
theorem wy_in1 {j N : Nat} {hi : Int32} (h : j < N) (k : post 1) (hN : N < 2 ^ 31 := by omega) (hh : hi = nI N := by first | rfl | decide) : wpY_in post (tY, pR, cH, cP, cD, vd, eK, eD, eP, stt, mC, oC, tk, sa, sb, eq, du, nx, dd, dp, dl, dm, pt, cd, ct, st, yd, yp, ya, yf, hel, mT, mK, mV, ou, eu, ev) (nI j) hi :=
  br_f (nI_pos (by omega)) (br_f (by rw [hh]; exact nI_ge h hN) k)
theorem wy_in0 {v hi : Int32} {N : Nat} (h : v < 0 ∨ nI N ≤ v) (k : post 0) (hh : hi = nI N := by first | rfl | decide) : wpY_in post (tY, pR, cH, cP, cD, vd, eK, eD, eP, stt, mC, oC, tk, sa, sb, eq, du, nx, dd, dp, dl, dm, pt, cd, ct, st, yd, yp, ya, yf, hel, mT, mK, mV, ou, eu, ev) v hi := by
  by_cases z : v < 0
  · exact br_t z k
  · exact br_f z (br_t (by rw [hh]; exact h.resolve_left z) k)
theorem wy_clamp {v lo hi : Int32} (k : post (if lo ≤ v then (if v ≤ hi then v else hi) else lo)) : wpY_clamp post (tY, pR, cH, cP, cD, vd, eK, eD, eP, stt, mC, oC, tk, sa, sb, eq, du, nx, dd, dp, dl, dm, pt, cd, ct, st, yd, yp, ya, yf, hel, mT, mK, mV, ou, eu, ev) v lo hi := by
  by_cases h : lo ≤ v
  · rw [if_pos h] at k
    by_cases h2 : v ≤ hi
    · rw [if_pos h2] at k; exact br_t h (br_t h2 k)
    · rw [if_neg h2] at k; exact br_t h (br_f h2 k)
  · rw [if_neg h] at k; exact br_f h k
theorem wy_at {d i f : Nat} (hd : d < 6) (hi : i < 24) (hf : f < 4) (k : post (cd ((d * 24 + i) * 4 + f))) : wpY_at post (tY, pR, cH, cP, cD, vd, eK, eD, eP, stt, mC, oC, tk, sa, sb, eq, du, nx, dd, dp, dl, dm, pt, cd, ct, st, yd, yp, ya, yf, hel, mT, mK, mV, ou, eu, ev) (nI d) (nI i) (nI f) := by
  have e : (nI d * 24 + nI i) * 4 + nI f = nI ((d * 24 + i) * 4 + f) := by rw [nu_m24, nI_add, nu_m4, nI_add]
  unfold wpY_at
  dsimp only
  rw [e, nI_clamp (by omega)]
  exact ⟨vp_in_nI (by omega) (by decide), k⟩
theorem wy_forks {o : Nat} (ho : o < 15) (k : post (if o = 5 ∨ o = 11 then 1 else 0)) : wpY_forks post (tY, pR, cH, cP, cD, vd, eK, eD, eP, stt, mC, oC, tk, sa, sb, eq, du, nx, dd, dp, dl, dm, pt, cd, ct, st, yd, yp, ya, yf, hel, mT, mK, mV, ou, eu, ev) (nI o) := by
  refine pk_eq o 5 (fun h => ?_) (fun h5 => pk_eq o 11 (fun h => ?_) (fun h11 => ?_))
  · rw [if_pos (Or.inl h)] at k; exact k
  · rw [if_pos (Or.inr h)] at k; exact k
  · rw [if_neg (by omega)] at k; exact k
theorem wy_usesY {o : Nat} (ho : o < 15) (k : post (if o = 8 ∨ o = 9 ∨ o = 14 then 1 else 0)) : wpY_usesY post (tY, pR, cH, cP, cD, vd, eK, eD, eP, stt, mC, oC, tk, sa, sb, eq, du, nx, dd, dp, dl, dm, pt, cd, ct, st, yd, yp, ya, yf, hel, mT, mK, mV, ou, eu, ev) (nI o) := by
  refine pk_eq o 8 (fun h => ?_) (fun h5 => pk_eq o 9 (fun h => ?_) (fun h9 => pk_eq o 14 (fun h => ?_) (fun h11 => ?_)))
  · rw [if_pos (by omega)] at k; exact k
  · rw [if_pos (by omega)] at k; exact k
  · rw [if_pos (by omega)] at k; exact k
  · rw [if_neg (by omega)] at k; exact k
end small
def yr (T : Nat) (K A B : Nat → Nat) (tk sa sb eq du pt dp : Nat → Int32) : Prop := ty_W T K A B ∧ tt_A K A B tk sa sb ∧ tb (ty_E K A B) eq 256 ∧ tb (ty_D K A B) du 256 ∧ (∀ j, j < 36 → ∃ t, t < T ∧ pt j = nI t) ∧ (∀ d, d < 6 → ∃ n, n ≤ 6 ∧ dp d = nI n)
theorem wy_ld2 {post : Int32 → Prop} (h : yr T K A B tk sa sb eq du pt dp) {t : Nat} (ht : t < T) (k : post (ld T K A B t)) :
    ∀ n u, u ≤ T → T < n + u → (∀ w, w < u → ¬ ty_D K A B t w) → wY_lowestDual_2 post (nI t) (nI T) pR cH cP cD vd eK eD eP stt mC oC tk sa sb eq du nx dd dp dl dm pt cd ct st yd yp ya yf hel mT mK mV ou eu ev n (nI u) := by
  have hT := h.1.2.1
  intro n
  induction n with
  | zero => intro u h1 h2; omega
  | succ n ih =>
    intro u h1 h2 I
    by_cases e : u = T
    · subst e
      rw [ld_u (Or.inr ⟨rfl, I⟩)] at k
      exact br_t (nI_le (Nat.le_refl _) (by omega)) k
    · refine br_f (nI_ge (by omega) (by omega)) ?_
      rw [nu_m16, nI_add, nI_clamp (show t * 16 + u < 2 ^ 31 by omega)]
      refine ⟨vp_in_nI (by omega) (by decide), br_c (fun z => ?_) (fun z => ?_)⟩
      · have z := (tb_z h.2.2.2.1 (show t < 16 by omega) (show u < 16 by omega)).mp z
        exact nm_r (nI_1 u) (ih (u + 1) (by omega) (by omega) (fun w hw => by
          by_cases e2 : w = u
          · rw [e2]; exact z
          · exact I w (by omega)))
      · have z : ty_D K A B t u := Classical.byContradiction (fun q => z ((tb_z h.2.2.2.1 (show t < 16 by omega) (show u < 16 by omega)).mpr q))
        rw [ld_u (Or.inl ⟨u, by omega, rfl, z, I⟩)] at k
        exact k
theorem wy_ld {post : Int32 → Prop} (h : yr T K A B tk sa sb eq du pt dp) {t : Nat} (ht : t < T) (k : post (ld T K A B t)) : wpY_lowestDual post (nI T, pR, cH, cP, cD, vd, eK, eD, eP, stt, mC, oC, tk, sa, sb, eq, du, nx, dd, dp, dl, dm, pt, cd, ct, st, yd, yp, ya, yf, hel, mT, mK, mV, ou, eu, ev) (nI t) :=
  ⟨T + 1, wy_ld2 h ht k (T + 1) 0 (by omega) (by omega) (fun w hw => absurd hw (Nat.not_lt_zero w))⟩
theorem wy_f59 {post : Int32 → Prop} (h : yr T K A B tk sa sb eq du pt dp) (hct : cv T ct) {m d f : Nat} (hm : m < 64) (hd : d < 6) (hf : f + bm_c m 6 ≤ 6) (hb : ∀ v, v < 6 → bm_t m v = true → ¬ ct v < 0)
    (k1 : jz K A B pt ct m d f → post 0) (k0 : ¬ jz K A B pt ct m d f → post 7) :
    ∀ n v, v ≤ 6 → 6 < n + v → (∀ w, w < v → bm_t m w = true → eq32 K A B (ct w) (pt (d * 6 + (f + bm_c m w)))) → wY_fits_59 post (nI m) (nI d) tY pR cH cP cD vd eK eD eP stt mC oC tk sa sb eq du nx dd dp dl dm pt cd ct st yd yp ya yf hel mT mK mV ou eu ev n (nI (f + bm_c m v)) (nI v) := by
  intro n
  induction n with
  | zero => intro v h1 h2; omega
  | succ n ih =>
    intro v h1 h2 I
    have hT := h.1.2.1
    by_cases e : v = 6
    · subst e; exact br_t (nI_le (a := 6) (b := 6) (by omega) (by decide)) (k1 I)
    · refine br_f (nI_ge (b := 6) (by omega) (by decide)) ?_
      have cm : bm_c m (v + 1) ≤ bm_c m 6 := by
        have := bm_c_mono m (v + 1) (6 - (v + 1))
        rw [show v + 1 + (6 - (v + 1)) = 6 by omega] at this
        exact this
      have cs : bm_c m (v + 1) = bm_c m v + bm_n m v := rfl
      by_cases z : bm_t m v = true
      · have cs : bm_c m (v + 1) = bm_c m v + 1 := by rw [cs]; unfold bm_n; rw [if_pos z]
        refine br_t ((bm_b1 (by omega) hm).mpr z) ?_
        obtain ⟨t, t1, t2⟩ := cv_in hct (v := v) (by omega) (hb v (by omega) z)
        obtain ⟨s, s1, s2⟩ := h.2.2.2.2.1 (d * 6 + (f + bm_c m v)) (by omega)
        have e0 : nI d * 6 + nI (f + bm_c m v) = nI (d * 6 + (f + bm_c m v)) := by rw [nu_m6, nI_add]
        rw [e0, nI_clamp (show v < 2 ^ 31 by omega), nI_clamp (show d * 6 + (f + bm_c m v) < 2 ^ 31 by omega), t2, s2, nu_m16, nI_add, nI_clamp (show t * 16 + s < 2 ^ 31 by omega)]
        refine ⟨vp_in_nI (by omega) (by decide), vp_in_nI (by omega) (by decide), vp_in_nI (by omega) (by decide), br_c (fun q => k0 (fun p => ?_)) (fun q => ?_)⟩
        · have := p v (by omega) z
          rw [t2, s2] at this; unfold eq32 at this; rw [nI_clamp (by omega), nI_clamp (by omega)] at this
          exact (tb_z h.2.2.1 (show t < 16 by omega) (show s < 16 by omega)).mp q this
        · refine nm_r (e' := nI (f + bm_c m (v + 1))) (by rw [nI_1, cs]; rfl) (nm_r (nI_1 v) (ih (v + 1) (by omega) (by omega) (fun w hw tw => ?_)))
          by_cases ew : w = v
          · rw [ew, t2, s2]; unfold eq32; rw [nI_clamp (by omega), nI_clamp (by omega)]
            exact Classical.byContradiction (fun p => q ((tb_z h.2.2.1 (show t < 16 by omega) (show s < 16 by omega)).mpr p))
          · exact I w (by omega) tw
      · have cs : bm_c m (v + 1) = bm_c m v := by rw [cs]; unfold bm_n; rw [if_neg z]; rfl
        refine br_f (fun q => z ((bm_b1 (by omega) hm).mp q)) (nm_r (nI_1 v) ?_)
        rw [← cs]
        exact ih (v + 1) (by omega) (by omega) (fun w hw tw => by
          by_cases ew : w = v
          · rw [ew] at tw; exact absurd tw z
          · exact I w (by omega) tw)
theorem wy_f6 {post : Int32 → Prop} (h : yr T K A B tk sa sb eq du pt dp) (hct : cv T ct) {m d f : Nat} (hm : m < 64) (hd : d < 6) (hf : f ≤ 1) (hb : ∀ v, v < 6 → bm_t m v = true → ¬ ct v < 0)
    (k : post (nI (jf K A B dd dp pt ct m d f))) : ∀ n v, v ≤ 6 → 6 < n + v → wY_fits_6 post (nI m) (nI d) (nI f) tY pR cH cP cD vd eK eD eP stt mC oC tk sa sb eq du nx dd dp dl dm pt cd ct st yd yp ya yf hel mT mK mV ou eu ev n (nI (f + bm_c m v)) (nI v) := by
  have e1 : (nI d).toNatClampNeg = d := nI_clamp (by omega)
  have i1 : vp_in (nI d) 6 := vp_in_nI hd (by decide)
  have cb := bm_c_le m 6
  obtain ⟨l, l1, l2⟩ := h.2.2.2.2.2 d hd
  unfold jf at k
  intro n
  induction n with
  | zero => intro v h1 h2; omega
  | succ n ih =>
    intro v h1 h2
    by_cases e : v = 6
    · subst e
      refine br_t (nI_le (a := 6) (b := 6) (by omega) (by decide)) ⟨i1, ?_⟩
      rw [e1]
      refine br_c (fun z => ?_) (fun z => ⟨i1, br_c (fun y => ?_) (fun y => ?_)⟩)
      · rw [if_pos z] at k; exact k
      · rw [if_neg z, if_pos y] at k
        have hn : f + bm_c m 6 ≤ 6 := by
          have : l = f + bm_c m 6 := (nI_eq (by omega) (by omega)).mp (l2.symm.trans y)
          omega
        refine ⟨7, wy_f59 h hct hm hd hn hb (fun q => ?_) (fun q => ?_) 7 0 (by omega) (by omega) (fun w hw => absurd hw (Nat.not_lt_zero w))⟩
        · rw [if_pos (cz_t.mpr q)] at k; exact k
        · rw [if_neg (cz_f.mpr q)] at k; exact k
      · rw [if_neg z, if_neg y] at k; exact k
    · refine br_f (nI_ge (b := 6) (by omega) (by decide)) (nm_r (e' := nI (f + bm_c m (v + 1))) ?_ (nm_r (nI_1 v) (ih (v + 1) (by omega) (by omega))))
      rw [bm_sr v (by omega) m hm, nI_add, bm_c, Nat.add_assoc]
theorem wy_fits {post : Int32 → Prop} (h : yr T K A B tk sa sb eq du pt dp) (hct : cv T ct) {m d f : Nat} (hm : m < 64) (hd : d < 6) (hf : f ≤ 1) (hb : ∀ v, v < 6 → bm_t m v = true → ¬ ct v < 0)
    (k : post (nI (jf K A B dd dp pt ct m d f))) : wpY_fits post (tY, pR, cH, cP, cD, vd, eK, eD, eP, stt, mC, oC, tk, sa, sb, eq, du, nx, dd, dp, dl, dm, pt, cd, ct, st, yd, yp, ya, yf, hel, mT, mK, mV, ou, eu, ev) (nI m) (nI d) (nI f) := ⟨7, wy_f6 h hct hm hd hf hb k 7 0 (by omega) (by omega)⟩
variable {post : Int32 → SY → Prop}
/-! the rule's tails -/
theorem wy_j536 (h : yr T K A B tk sa sb eq du pt dp) {x4 z0 : Int32} {a t : Nat} (ha : a < 6) (ht : t < T) (n12 : ¬ x4 = 12) (k : post 0 (tY, pR, cH, cP, cD, vd, eK, eD, eP, stt, mC, oC, tk, sa, sb, eq, du, nx, dd, dp, dl, dm, pt, cd, upd ct a (if z0 = 0 then nI (A t) else nI (B t)), st, yd, yp, ya, yf, hel, mT, mK, mV, ou, eu, ev)) : wY_judge_536 post x4 (nI a) (nI t) z0 tY pR cH cP cD vd eK eD eP stt mC oC tk sa sb eq du nx dd dp dl dm pt cd ct st yd yp ya yf hel mT mK mV ou eu ev := by
  have e1 : (nI a).toNatClampNeg = a := nI_clamp (by omega)
  have i1 : vp_in (nI a) 6 := vp_in_nI ha (by decide)
  have hT := h.1.2.1
  have i2 : vp_in (nI t) 16 := vp_in_nI (by omega) (by decide)
  unfold wY_judge_536
  rw [e1, nI_clamp (show t < 2 ^ 31 by omega), (h.2.1 t (by omega)).2.1, (h.2.1 t (by omega)).2.2]
  refine br_f n12 (br_c (fun z => ?_) (fun z => ?_))
  · rw [if_pos z] at k; exact ⟨i2, i1, nm_e k⟩
  · rw [if_neg z] at k; exact ⟨i2, i1, nm_e k⟩
/-- I_SEND, I_RECV, I_SELECT, I_BRANCH, I_CLOSE -/
theorem wy_jS (h : yr T K A B tk sa sb eq du pt dp) (hct : cv T ct) {o a b : Nat} {y x7 x8 : Int32} {s : Bool} (ho : o = 6 ∨ o = 7 ∨ o = 10 ∨ o = 11 ∨ o = 12) (ha : a < 6) (hb : o = 10 → b < 2 ∧ y = nI b)
    (k0 : jeS K ct o a = 0 → post 0 (tY, pR, cH, cP, cD, vd, eK, eD, eP, stt, mC, oC, tk, sa, sb, eq, du, nx, dd, dp, dl, dm, pt, cd, jc T K A B pt ct o a b 0 s, st, yd, yp, ya, yf, hel, mT, mK, mV, ou, eu, ev)) (k1 : ¬ jeS K ct o a = 0 → post (nI (jeS K ct o a)) (tY, pR, cH, cP, cD, vd, eK, eD, eP, stt, mC, oC, tk, sa, sb, eq, du, nx, dd, dp, dl, dm, pt, cd, ct, st, yd, yp, ya, yf, hel, mT, mK, mV, ou, eu, ev)) : wY_judge_142 post (if s = true then 1 else 0) (nI o) (nI a) y x7 x8 0 0 tY pR cH cP cD vd eK eD eP stt mC oC tk sa sb eq du nx dd dp dl dm pt cd ct st yd yp ya yf hel mT mK mV ou eu ev := by
  have e1 : (nI a).toNatClampNeg = a := nI_clamp (by omega)
  have i1 : vp_in (nI a) 6 := vp_in_nI ha (by decide)
  have hT := h.1.2.1
  have n8 : ¬ nI o = 8 := fun q => by have := (nI_eq (b := 8) (by omega) (by omega)).mp q; omega
  have n9 : ¬ nI o = 9 := fun q => by have := (nI_eq (b := 9) (by omega) (by omega)).mp q; omega
  have n13 : ¬ nI o = 13 := fun q => by have := (nI_eq (b := 13) (by omega) (by omega)).mp q; omega
  have n14 : ¬ nI o = 14 := fun q => by have := (nI_eq (b := 14) (by omega) (by omega)).mp q; omega
  refine ⟨i1, nm_r (e' := ct a) (by rw [e1]) (br_t rfl (br_f n8 (br_f n14 (br_t rfl (br_t rfl (br_c (fun z => ?_) (fun z => br_f n8 (br_f n9 (br_t rfl ?_)))))))))⟩
  · rw [jeS_3 z] at k1; exact k1 (by decide)
  · obtain ⟨t, t1, t2⟩ := cv_in hct ha z
    have kt := (h.1.2.2 t (by omega)).1
    have kK : K (ct a).toNatClampNeg = K t := by rw [t2, nI_clamp (by omega)]
    rw [t2, nI_clamp (show t < 2 ^ 31 by omega), (h.2.1 t (by omega)).1]
    refine ⟨vp_in_nI (by omega) (by decide), ?_⟩
    have tail : jeS K ct o a = 0 → wY_judge_471 post (if s = true then 1 else 0) (nI o) (nI a) y (nI t) tY pR cH cP cD vd eK eD eP stt mC oC tk sa sb eq du nx dd dp dl dm pt cd ct st yd yp ya yf hel mT mK mV ou eu ev := fun q => by
      have k0 := k0 q
      refine br_f n8 (br_f n9 ?_)
      rcases ho with ho | ho | ho | ho | ho
      · subst ho
        rw [jc_6 (Or.inl rfl), t2, nI_clamp (show t < 2 ^ 31 by omega)] at k0
        exact br_f (by decide) (br_f (by decide) (wy_j536 h ha t1 (by decide) k0))
      · subst ho
        rw [jc_6 (Or.inr rfl), t2, nI_clamp (show t < 2 ^ 31 by omega)] at k0
        exact br_f (by decide) (br_f (by decide) (wy_j536 h ha t1 (by decide) k0))
      · subst ho
        rw [jc_10, t2, nI_clamp (show t < 2 ^ 31 by omega)] at k0
        obtain ⟨b1, b2⟩ := hb rfl
        rw [b2]
        refine br_t rfl ?_
        refine pk_eq b 1 (fun p => ?_) (fun p => ?_)
        · rw [if_pos p] at k0; exact wy_j536 h ha t1 (by decide) k0
        · rw [if_neg p] at k0; exact br_f (by decide) (wy_j536 h ha t1 (by decide) k0)
      · subst ho
        rw [jc_11, t2, nI_clamp (show t < 2 ^ 31 by omega)] at k0
        refine br_f (by decide) (br_t rfl ?_)
        cases s with
        | false => exact br_t rfl (wy_j536 h ha t1 (by decide) k0)
        | true => exact br_f (by decide) (wy_j536 h ha t1 (by decide) k0)
      · subst ho
        rw [jc_12] at k0
        refine br_f (by decide) (br_f (by decide) ?_)
        unfold wY_judge_535 wY_judge_536
        rw [e1]
        exact br_t rfl ⟨i1, nm_e k0⟩
    have go : ∀ q : Nat, q < 8 → (q = if o = 12 then 0 else o - 5) → wY_judge_434 post (if s = true then 1 else 0) (nI o) (nI a) y (nI t) (-1) (nI q) (nI (K t)) tY pR cH cP cD vd eK eD eP stt mC oC tk sa sb eq du nx dd dp dl dm pt cd ct st yd yp ya yf hel mT mK mV ou eu ev := fun q q8 hq => by
      unfold wY_judge_434
      refine pk_eq (K t) q (fun p => ?_) (fun p => ?_)
      · exact br_f n8 (tail (jeS_0 z (by rw [kK, p]; exact hq)))
      · rw [jeS_7 z (by rw [kK, ← hq]; exact p)] at k1; exact k1 (by decide)
    refine pk_eq o 12 (fun p => ?_) (fun p => ?_)
    · exact go 0 (by omega) (by rw [if_pos p])
    · have e3 : (nI o - 6) + 1 = nI (o - 5) := by
        have : nI o - 6 = nI (o - 6) := pk_sub (b := 6) (by omega)
        rw [this, nI_1]; congr 1; omega
      rw [e3]
      exact go (o - 5) (by omega) (by rw [if_neg p])
theorem wy_j8 (h : yr T K A B tk sa sb eq du pt dp) (hct : cv T ct) {a b : Nat} {x3 x7 x8 : Int32} (ha : a < 6) (hb : b < 6)
    (k0 : je8 K A B ct a b = 0 → post 0 (tY, pR, cH, cP, cD, vd, eK, eD, eP, stt, mC, oC, tk, sa, sb, eq, du, nx, dd, dp, dl, dm, pt, cd, upd (upd ct b (-1)) a (nI (A (ct a).toNatClampNeg)), st, yd, yp, ya, yf, hel, mT, mK, mV, ou, eu, ev)) (k1 : ¬ je8 K A B ct a b = 0 → post (nI (je8 K A B ct a b)) (tY, pR, cH, cP, cD, vd, eK, eD, eP, stt, mC, oC, tk, sa, sb, eq, du, nx, dd, dp, dl, dm, pt, cd, ct, st, yd, yp, ya, yf, hel, mT, mK, mV, ou, eu, ev)) : wY_judge_142 post x3 8 (nI a) (nI b) x7 x8 1 0 tY pR cH cP cD vd eK eD eP stt mC oC tk sa sb eq du nx dd dp dl dm pt cd ct st yd yp ya yf hel mT mK mV ou eu ev := by
  have e1 : (nI a).toNatClampNeg = a := nI_clamp (by omega)
  have e2 : (nI b).toNatClampNeg = b := nI_clamp (by omega)
  have i1 : vp_in (nI a) 6 := vp_in_nI ha (by decide)
  have i2 : vp_in (nI b) 6 := vp_in_nI hb (by decide)
  have hT := h.1.2.1
  unfold je8 at k0 k1
  refine ⟨i1, nm_r (e' := ct a) (by rw [e1]) (br_f nu_10 ⟨i2, ?_⟩)⟩
  rw [e2]
  refine br_t rfl ?_
  unfold wY_judge_185
  refine pk_eq a b (fun z => ?_) (fun z => br_t rfl (br_t rfl (br_c (fun y => ?_) (fun y => br_t rfl ?_))))
  · rw [if_pos z] at k1; exact k1 (by decide)
  · rw [if_neg z, if_pos y] at k1; exact k1 (by decide)
  · rw [if_neg z, if_neg y] at k0 k1
    by_cases x : ct b < 0
    · rw [if_pos x] at k1
      exact br_f (Int32.not_le.mpr x) (k1 (by decide))
    · rw [if_neg x] at k0 k1
      obtain ⟨t, t1, t2⟩ := cv_in hct ha y
      obtain ⟨u, u1, u2⟩ := cv_in hct hb x
      have wt := h.1.2.2 t (by omega)
      have i3 : vp_in (nI t) 16 := vp_in_nI (by omega) (by decide)
      refine br_t (Int32.not_lt.mp x) (br_f (by decide) (br_t rfl ?_))
      rw [t2, u2, nI_clamp (show t < 2 ^ 31 by omega)] at k0 k1
      unfold eq32 at k0 k1
      rw [nI_clamp (show u < 2 ^ 31 by omega), nI_clamp (show B t < 2 ^ 31 by omega)] at k0 k1
      rw [t2, u2, nI_clamp (show t < 2 ^ 31 by omega), (h.2.1 t (by omega)).1]
      refine ⟨i3, br_f (by decide) ?_⟩
      have e3 : ((8 : Int32) - 6) + 1 = nI 3 := by decide
      rw [e3]
      unfold wY_judge_434
      rw [nI_clamp (show t < 2 ^ 31 by omega), (h.2.1 t (by omega)).2.2, nu_m16, nI_add, nI_clamp (show u * 16 + B t < 2 ^ 31 by omega)]
      refine pk_eq (K t) 3 (fun v => br_t rfl ⟨i3, vp_in_nI (by omega) (by decide), br_c (fun q => ?_) (fun q => ?_)⟩) (fun v => ?_)
      · rw [if_pos v, if_neg (cz_f.mpr ((tb_z h.2.2.1 (show u < 16 by omega) (show B t < 16 by omega)).mp q))] at k1
        exact k1 (by decide)
      · have : ty_E K A B u (B t) := Classical.byContradiction (fun p => q ((tb_z h.2.2.1 (show u < 16 by omega) (show B t < 16 by omega)).mpr p))
        rw [if_pos v, if_pos (cz_t.mpr this)] at k0
        unfold wY_judge_471
        rw [e2]
        exact br_t rfl ⟨i2, nm_e (br_f (by decide) (br_f (by decide) (br_f (by decide) (wy_j536 h ha t1 (by decide) (k0 rfl)))))⟩
      · rw [if_neg v] at k1
        exact k1 (by decide)
theorem wy_j9 (h : yr T K A B tk sa sb eq du pt dp) (hct : cv T ct) {a b : Nat} {x3 x7 x8 : Int32} (ha : a < 6) (hb : b < 6)
    (k0 : je9 K ct a b = 0 → post 0 (tY, pR, cH, cP, cD, vd, eK, eD, eP, stt, mC, oC, tk, sa, sb, eq, du, nx, dd, dp, dl, dm, pt, cd, upd (upd ct b (nI (B (ct a).toNatClampNeg))) a (nI (A (ct a).toNatClampNeg)), st, yd, yp, ya, yf, hel, mT, mK, mV, ou, eu, ev)) (k1 : ¬ je9 K ct a b = 0 → post (nI (je9 K ct a b)) (tY, pR, cH, cP, cD, vd, eK, eD, eP, stt, mC, oC, tk, sa, sb, eq, du, nx, dd, dp, dl, dm, pt, cd, ct, st, yd, yp, ya, yf, hel, mT, mK, mV, ou, eu, ev)) : wY_judge_142 post x3 9 (nI a) (nI b) x7 x8 1 0 tY pR cH cP cD vd eK eD eP stt mC oC tk sa sb eq du nx dd dp dl dm pt cd ct st yd yp ya yf hel mT mK mV ou eu ev := by
  have e1 : (nI a).toNatClampNeg = a := nI_clamp (by omega)
  have e2 : (nI b).toNatClampNeg = b := nI_clamp (by omega)
  have i1 : vp_in (nI a) 6 := vp_in_nI ha (by decide)
  have i2 : vp_in (nI b) 6 := vp_in_nI hb (by decide)
  have hT := h.1.2.1
  unfold je9 at k0 k1
  refine ⟨i1, nm_r (e' := ct a) (by rw [e1]) (br_f nu_10 ⟨i2, ?_⟩)⟩
  rw [e2]
  refine br_f (by decide) (br_f (by decide) (br_t rfl (br_t rfl (br_c (fun y => ?_) (fun y => br_f (by decide) (br_t rfl (br_c (fun x => ?_) (fun x => ?_))))))))
  · rw [if_pos y] at k1; exact k1 (by decide)
  · rw [if_neg y, if_pos x] at k0 k1
    obtain ⟨t, t1, t2⟩ := cv_in hct ha y
    have wt := h.1.2.2 t (by omega)
    have i3 : vp_in (nI t) 16 := vp_in_nI (by omega) (by decide)
    rw [t2, nI_clamp (show t < 2 ^ 31 by omega)] at k0 k1
    refine br_t rfl ?_
    rw [t2, nI_clamp (show t < 2 ^ 31 by omega), (h.2.1 t (by omega)).1]
    refine ⟨i3, br_f (by decide) ?_⟩
    have e3 : ((9 : Int32) - 6) + 1 = nI 4 := by decide
    rw [e3]
    unfold wY_judge_434
    refine pk_eq (K t) 4 (fun v => br_f (by decide) (br_f (by decide) ?_)) (fun v => ?_)
    · rw [if_pos v] at k0
      unfold wY_judge_486
      rw [e2, nI_clamp (show t < 2 ^ 31 by omega), (h.2.1 t (by omega)).2.2]
      exact br_t rfl ⟨i3, i2, nm_e (br_f (by decide) (br_f (by decide) (wy_j536 h ha t1 (by decide) (k0 rfl))))⟩
    · rw [if_neg v] at k1
      exact k1 (by decide)
  · rw [if_neg y, if_neg x] at k1; exact k1 (by decide)
theorem wy_j331 {a m : Nat} {x6 x : Int32} (ha : a < 6) (hm : m < 64) (k : post 0 (tY, pR, cH, cP, cD, vd, eK, eD, eP, stt, mC, oC, tk, sa, sb, eq, du, nx, dd, dp, dl, dm, pt, cd, upd (jclr ct m 6) a x, st, yd, yp, ya, yf, hel, mT, mK, mV, ou, eu, ev)) : ∀ n v, v ≤ 6 → 6 < n + v → wY_judge_331 post 13 (nI a) x6 (nI m) x tY pR cH cP cD vd eK eD eP stt mC oC n (nI v) tk sa sb eq du nx dd dp dl dm pt cd (jclr ct m v) st yd yp ya yf hel mT mK mV ou eu ev := by
  have e1 : (nI a).toNatClampNeg = a := nI_clamp (by omega)
  have i1 : vp_in (nI a) 6 := vp_in_nI ha (by decide)
  intro n
  induction n with
  | zero => intro v h1 h2; omega
  | succ n ih =>
    intro v h1 h2
    by_cases e : v = 6
    · subst e
      refine br_t (nI_le (a := 6) (b := 6) (by omega) (by decide)) (br_t rfl ?_)
      unfold wY_judge_390
      rw [e1]
      exact ⟨i1, nm_e (br_f (by decide) k)⟩
    · refine br_f (nI_ge (b := 6) (by omega) (by decide)) (br_t rfl ?_)
      by_cases z : bm_t m v = true
      · refine br_t ((bm_b1 (by omega) hm).mpr z) ⟨vp_in_nI (by omega) (by decide), nm_r (e' := jclr ct m (v + 1)) (by rw [nI_clamp (by omega)]; exact jclr_y z) (nm_r (nI_1 v) (ih (v + 1) (by omega) (by omega)))⟩
      · refine br_f (fun q => z ((bm_b1 (by omega) hm).mp q)) (nm_r (nI_1 v) ?_)
        rw [jclr_n z]
        exact ih (v + 1) (by omega) (by omega)
theorem wy_j331o {a b : Nat} {x7 x : Int32} (ha : a < 6) (hb : b < 6) (k : post 0 (tY, pR, cH, cP, cD, vd, eK, eD, eP, stt, mC, oC, tk, sa, sb, eq, du, nx, dd, dp, dl, dm, pt, cd, upd (upd ct a x7) b x, st, yd, yp, ya, yf, hel, mT, mK, mV, ou, eu, ev)) : ∀ n v, v ≤ 6 → 6 < n + v → wY_judge_331 post 14 (nI a) (nI b) x7 x tY pR cH cP cD vd eK eD eP stt mC oC n (nI v) tk sa sb eq du nx dd dp dl dm pt cd ct st yd yp ya yf hel mT mK mV ou eu ev := by
  have e1 : (nI a).toNatClampNeg = a := nI_clamp (by omega)
  have i1 : vp_in (nI a) 6 := vp_in_nI ha (by decide)
  have e2 : (nI b).toNatClampNeg = b := nI_clamp (by omega)
  have i2 : vp_in (nI b) 6 := vp_in_nI hb (by decide)
  intro n
  induction n with
  | zero => intro v h1 h2; omega
  | succ n ih =>
    intro v h1 h2
    by_cases e : v = 6
    · subst e
      refine br_t (nI_le (a := 6) (b := 6) (by omega) (by decide)) (br_f (by decide) ?_)
      unfold wY_judge_390
      rw [e1, e2]
      exact ⟨i1, nm_e (br_t rfl ⟨i2, nm_e k⟩)⟩
    · exact br_f (nI_ge (b := 6) (by omega) (by decide)) (br_f (by decide) (nm_r (nI_1 v) (ih (v + 1) (by omega) (by omega))))
theorem wy_j13 (h : yr T K A B tk sa sb eq du pt dp) (hct : cv T ct) {a b m : Nat} {x3 : Int32} (ha : a < 6) (hb : b < 6) (hm : m < 64)
    (k0 : je13 T K A B dd dp pt ct a b m = 0 → post 0 (nI T, pR, cH, cP, cD, vd, eK, eD, eP, stt, mC, oC, tk, sa, sb, eq, du, nx, dd, dp, dl, dm, pt, cd, upd (jclr ct m 6) a (ld T K A B (pt (b * 6)).toNatClampNeg), st, yd, yp, ya, yf, hel, mT, mK, mV, ou, eu, ev)) (k1 : ¬ je13 T K A B dd dp pt ct a b m = 0 → post (nI (je13 T K A B dd dp pt ct a b m)) (nI T, pR, cH, cP, cD, vd, eK, eD, eP, stt, mC, oC, tk, sa, sb, eq, du, nx, dd, dp, dl, dm, pt, cd, ct, st, yd, yp, ya, yf, hel, mT, mK, mV, ou, eu, ev)) : wY_judge_142 post x3 13 (nI a) (nI b) (nI m) (nI (jm ct)) 0 1 (nI T) pR cH cP cD vd eK eD eP stt mC oC tk sa sb eq du nx dd dp dl dm pt cd ct st yd yp ya yf hel mT mK mV ou eu ev := by
  have e1 : (nI a).toNatClampNeg = a := nI_clamp (by omega)
  have i1 : vp_in (nI a) 6 := vp_in_nI ha (by decide)
  have hT := h.1.2.1
  obtain ⟨p, p1, p2⟩ := h.2.2.2.2.1 (b * 6) (by omega)
  unfold je13 at k0 k1
  refine ⟨i1, nm_r (e' := ct a) (by rw [e1]) (br_t rfl (br_f (by decide) (br_f (by decide) (br_f nu_10 ?_))))⟩
  by_cases z : ct a < 0
  · rw [if_pos z] at k0 k1
    refine br_f (Int32.not_le.mpr z) (br_t nu_m1lt (br_f nu_10 (br_f (by decide) (br_f nu_10 (br_t rfl (br_c (fun s => ?_) (fun s => ?_)))))))
    · rw [if_pos s] at k0 k1
      refine wy_fits (f := 1) h hct hm hb (by omega) (fun v hv tv => (jm_b hv).mp (bm_sub2 m hm _ (jm_64 ct) s v hv tv)) ?_
      by_cases y : jf K A B dd dp pt ct m b 1 = 0
      · rw [if_pos y] at k0 k1
        rw [y]
        refine br_t rfl (br_t rfl ?_)
        rw [p2, nI_clamp (show p < 2 ^ 31 by omega)] at k0 k1
        rw [nu_m6, nI_clamp (show b * 6 < 2 ^ 31 by omega), p2]
        refine ⟨vp_in_nI (by omega) (by decide), wy_ld h p1 ?_⟩
        rcases ld_v (T := T) (K := K) (A := A) (B := B) p with ⟨u, u1, u2⟩ | u
        · rw [u2] at k0 ⊢
          rw [if_neg (nu_ne1 (by omega))] at k0
          refine br_t (nI_pos' (by omega)) ⟨7, ?_⟩
          have := wy_j331 (x6 := nI b) ha hm (k0 rfl) 7 0 (by omega) (by omega)
          rw [jclr_0] at this
          exact this
        · rw [u] at k1 ⊢
          rw [if_pos rfl] at k1
          exact br_f nu_m1le (k1 (by decide))
      · rw [if_neg y] at k1
        have yb : ¬ nI (jf K A B dd dp pt ct m b 1) = 0 := by
          unfold jf at y ⊢
          split
          · decide
          · split
            · split
              · next q1 q2 q3 => rw [if_neg q1, if_pos q2, if_pos q3] at y; exact absurd rfl y
              · decide
            · decide
        exact br_f yb (k1 y)
    · rw [if_neg s] at k1
      exact k1 (by decide)
  · rw [if_neg z] at k1
    exact br_t (Int32.not_lt.mp z) (k1 (by decide))
theorem wy_j14 (h : yr T K A B tk sa sb eq du pt dp) (hct : cv T ct) {a b t : Nat} {x3 x8 : Int32} (ha : a < 6) (hb : b < 6) (ht : t < T)
    (k0 : je14 T K A B ct a b t = 0 → post 0 (nI T, pR, cH, cP, cD, vd, eK, eD, eP, stt, mC, oC, tk, sa, sb, eq, du, nx, dd, dp, dl, dm, pt, cd, upd (upd ct a (nI t)) b (ld T K A B t), st, yd, yp, ya, yf, hel, mT, mK, mV, ou, eu, ev)) (k1 : ¬ je14 T K A B ct a b t = 0 → post (nI (je14 T K A B ct a b t)) (nI T, pR, cH, cP, cD, vd, eK, eD, eP, stt, mC, oC, tk, sa, sb, eq, du, nx, dd, dp, dl, dm, pt, cd, ct, st, yd, yp, ya, yf, hel, mT, mK, mV, ou, eu, ev)) : wY_judge_142 post x3 14 (nI a) (nI b) (nI t) x8 1 1 (nI T) pR cH cP cD vd eK eD eP stt mC oC tk sa sb eq du nx dd dp dl dm pt cd ct st yd yp ya yf hel mT mK mV ou eu ev := by
  have e1 : (nI a).toNatClampNeg = a := nI_clamp (by omega)
  have i1 : vp_in (nI a) 6 := vp_in_nI ha (by decide)
  have e2 : (nI b).toNatClampNeg = b := nI_clamp (by omega)
  have i2 : vp_in (nI b) 6 := vp_in_nI hb (by decide)
  have hT := h.1.2.1
  unfold je14 at k0 k1
  refine ⟨i1, nm_r (e' := ct a) (by rw [e1]) (br_f nu_10 ⟨i2, ?_⟩)⟩
  rw [e2]
  refine br_f (by decide) (br_t rfl ?_)
  unfold wY_judge_185
  refine pk_eq a b (fun z => ?_) (fun z => br_f nu_10 ?_)
  · rw [if_pos z] at k1; exact k1 (by decide)
  · rw [if_neg z] at k0 k1
    by_cases y : ct a < 0
    · rw [if_pos y] at k0 k1
      refine br_f (Int32.not_le.mpr y) (br_c (fun x => ?_) (fun x => ?_))
      · rw [if_pos x] at k0 k1
        refine br_f nu_10 (br_f (by decide) (br_f nu_10 (br_f (by decide) (br_f (by decide) (wy_ld h ht ?_)))))
        rcases ld_v (T := T) (K := K) (A := A) (B := B) t with ⟨u, u1, u2⟩ | u
        · rw [u2] at k0 ⊢
          rw [if_neg (nu_ne1 (by omega))] at k0
          exact br_t (nI_pos' (by omega)) ⟨7, wy_j331o ha hb (k0 rfl) 7 0 (by omega) (by omega)⟩
        · rw [u] at k1 ⊢
          rw [if_pos rfl] at k1
          exact br_f nu_m1le (k1 (by decide))
      · rw [if_neg x] at k1; exact k1 (by decide)
    · rw [if_neg y] at k1
      exact br_t (Int32.not_lt.mp y) (k1 (by decide))
end WY3
end
section
section WY4
variable {tY pR cH cP cD vd eK eD eP stt mC oC : Int32} {tk sa sb eq du nx dd dp dl dm pt cd ct st yd yp ya yf hel mT mK mV ou eu ev : Nat → Int32}
variable {T : Nat} {K A B : Nat → Nat} {post : Int32 → SY → Prop}
theorem jc_c {g : Nat → Int32} {o a b c : Nat} {s : Bool} (ho : o = 6 ∨ o = 7 ∨ o = 10 ∨ o = 11 ∨ o = 12) : jc T K A B pt g o a b c s = jc T K A B pt g o a b 0 s := by
  rcases ho with h | h | h | h | h
  · rw [jc_6 (Or.inl h), jc_6 (Or.inl h)]
  · rw [jc_6 (Or.inr h), jc_6 (Or.inr h)]
  · rw [h, jc_10, jc_10]
  · rw [h, jc_11, jc_11]
  · rw [h, jc_12, jc_12]
theorem wy_j42 {x3 x4 x5 x6 x7 : Int32} (kk : ∀ n, wY_judge_42 post x3 x4 x5 x6 x7 tY pR cH cP cD vd eK eD eP stt mC oC tk sa sb eq du nx dd dp dl dm pt cd ct st yd yp ya yf hel mT mK mV ou eu ev (n + 1) (nI (jm ct)) (nI 6)) : ∀ n v, v ≤ 6 → 6 < n + v → wY_judge_42 post x3 x4 x5 x6 x7 tY pR cH cP cD vd eK eD eP stt mC oC tk sa sb eq du nx dd dp dl dm pt cd ct st yd yp ya yf hel mT mK mV ou eu ev n (nI (bm_m (cx_b ct) v)) (nI v) := by
  intro n
  induction n with
  | zero => intro v h1 h2; omega
  | succ n ih =>
    intro v h1 h2
    by_cases h : v = 6
    · subst h; exact kk n
    · refine br_f (nI_ge (b := 6) (by omega) (by decide)) ⟨vp_in_nI (by omega) (by decide), ?_⟩
      rw [nI_clamp (by omega)]
      by_cases z : ct v < 0
      · refine br_t z (nm_r (nI_1 v) ?_)
        have e : bm_m (cx_b ct) v = bm_m (cx_b ct) (v + 1) := by
          rw [bm_m, if_neg (by unfold cx_b; rw [decide_eq_true_iff]; exact fun q => q z)]; rfl
        rw [e]
        exact ih (v + 1) (by omega) (by omega)
      · refine br_f z (nm_r (e' := nI (bm_m (cx_b ct) (v + 1))) ?_ (nm_r (nI_1 v) (ih (v + 1) (by omega) (by omega))))
        rw [bm_sh v (by omega), nI_add, bm_m, if_pos (by unfold cx_b; rw [decide_eq_true_iff]; exact z)]
theorem wy_judge (h : yr T K A B tk sa sb eq du pt dp) (hct : cv T ct) {d i o : Nat} {x y z : Int32} {s : Bool} (hd : d < 6) (hi : i < 24)
    (h0 : cd ((d * 24 + i) * 4) = nI o) (h1 : cd ((d * 24 + i) * 4 + 1) = x) (h2 : cd ((d * 24 + i) * 4 + 2) = y) (h3 : cd ((d * 24 + i) * 4 + 3) = z) (ok : co_ok T o x y z)
    (k0 : je T K A B dd dp pt ct o x.toNatClampNeg y.toNatClampNeg z.toNatClampNeg = 0 → post 0 (nI T, pR, cH, cP, cD, vd, eK, eD, eP, stt, mC, oC, tk, sa, sb, eq, du, nx, dd, dp, dl, dm, pt, cd, jc T K A B pt ct o x.toNatClampNeg y.toNatClampNeg z.toNatClampNeg s, st, yd, yp, ya, yf, hel, mT, mK, mV, ou, eu, ev))
    (k1 : ¬ je T K A B dd dp pt ct o x.toNatClampNeg y.toNatClampNeg z.toNatClampNeg = 0 → post (nI (je T K A B dd dp pt ct o x.toNatClampNeg y.toNatClampNeg z.toNatClampNeg)) (nI T, pR, cH, cP, cD, vd, eK, eD, eP, stt, mC, oC, tk, sa, sb, eq, du, nx, dd, dp, dl, dm, pt, cd, ct, st, yd, yp, ya, yf, hel, mT, mK, mV, ou, eu, ev)) :
    wpY_judge post (nI T, pR, cH, cP, cD, vd, eK, eD, eP, stt, mC, oC, tk, sa, sb, eq, du, nx, dd, dp, dl, dm, pt, cd, ct, st, yd, yp, ya, yf, hel, mT, mK, mV, ou, eu, ev) (nI d) (nI i) (if s = true then 1 else 0) := by
  obtain ⟨o15, q1, q6, qb, q10, q13, q14⟩ := ok
  have hT := h.1.2.1
  have cl1 : ∀ {x : Int32} {n : Nat}, n < 64 → x = nI n → x.toNatClampNeg = n := fun hn hx => by rw [hx, nI_clamp (by omega)]
  unfold wpY_judge
  dsimp only
  refine wy_at (f := 0) hd hi (by omega) ?_
  refine wy_at (f := 1) hd hi (by omega) ?_
  refine wy_at (f := 2) hd hi (by omega) ?_
  refine wy_at (f := 3) hd hi (by omega) ?_
  rw [Nat.add_zero, h0, h1, h2, h3]
  refine ⟨7, wy_j42 (fun n => ?_) 7 0 (by omega) (by omega)⟩
  refine br_t (nI_le (a := 6) (b := 6) (by omega) (by decide)) ?_
  refine pk_eq o 0 (fun w => ?_) (fun w0 => pk_eq o 1 (fun w => ?_) (fun w1 => pk_lt 5 o (fun w => ?_) (fun w => ?_)))
  · subst w
    rw [je_0] at k0 k1
    refine pk_eq (jm ct) 0 (fun p => ?_) (fun p => ?_) rfl rfl (by have := jm_64 ct; omega) (by omega)
    · exact k0 (if_pos p)
    · rw [if_neg p] at k1; exact k1 (by decide)
  · subst w
    obtain ⟨a, a1, a2⟩ := q1 rfl
    have e2 : x.toNatClampNeg = a := cl1 (by omega) a2
    rw [je_1, e2] at k0 k1
    rw [a2]
    refine wy_fits (f := 0) h hct (jm_64 ct) a1 (by omega) (fun v hv => (jm_b hv).mp) ?_
    by_cases p : jf K A B dd dp pt ct (jm ct) a 0 = 0
    · rw [p]; exact k0 p
    · exact k1 p
  · obtain ⟨a, a1, a2⟩ := q6 (by omega)
    have e2 : x.toNatClampNeg = a := cl1 (by omega) a2
    rw [e2] at k0 k1
    rw [a2]
    refine wy_usesY o15 ?_
    by_cases o13 : o = 13
    · subst o13
      obtain ⟨⟨b, b1, b2⟩, m, m1, m2⟩ := q13 rfl
      have e3 : y.toNatClampNeg = b := cl1 (by omega) b2
      have e4 : z.toNatClampNeg = m := cl1 (by omega) m2
      rw [je_13, e3, e4] at k0 k1
      rw [b2, m2]
      exact br_t rfl (wy_j13 h hct a1 b1 m1 k0 k1)
    · refine br_f (fun q => o13 ((nI_eq (b := 13) (by omega) (by omega)).mp q)) ?_
      by_cases o14 : o = 14
      · subst o14
        obtain ⟨b, b1, b2⟩ := qb (by omega)
        obtain ⟨t, t1, t2⟩ := q14 rfl
        have e3 : y.toNatClampNeg = b := cl1 (by omega) b2
        have e4 : z.toNatClampNeg = t := cl1 (by omega) t2
        rw [je_14, e3, e4] at k0 k1
        rw [b2, t2]
        exact br_t rfl (wy_j14 h hct a1 b1 t1 k0 k1)
      · refine br_f (fun q => o14 ((nI_eq (b := 14) (by omega) (by omega)).mp q)) ?_
        by_cases o8 : o = 8
        · subst o8
          obtain ⟨b, b1, b2⟩ := qb (by omega)
          have e3 : y.toNatClampNeg = b := cl1 (by omega) b2
          rw [je_8, e3] at k0 k1
          rw [b2]
          exact wy_j8 h hct a1 b1 k0 k1
        · by_cases o9 : o = 9
          · subst o9
            obtain ⟨b, b1, b2⟩ := qb (by omega)
            have e3 : y.toNatClampNeg = b := cl1 (by omega) b2
            rw [je_9, e3] at k0 k1
            rw [b2]
            exact wy_j9 h hct a1 b1 k0 k1
          · rw [if_neg (show ¬ (o = 8 ∨ o = 9 ∨ o = 14) by omega)]
            have ho : o = 6 ∨ o = 7 ∨ o = 10 ∨ o = 11 ∨ o = 12 := by omega
            rw [je_S ho] at k0 k1
            rw [jc_c ho] at k0
            refine wy_jS h hct ho a1 (fun p => ?_) k0 k1
            rcases q10 p with r | r
            · rw [r]; exact ⟨by decide, by decide⟩
            · rw [r]; exact ⟨by decide, by decide⟩
  · rw [je_2 (by omega) (by omega), jc_lt (by omega)] at k0
    exact k0 rfl
end WY4
end
section
section CTX
variable {tY pR cH cP stl cD vd eK eD eP stt oC mC : Int32} {tk sa sb gK gA gB cl nC dd dp dl dm pt cO cA cB cC cx cu st pd pp pa pf pv es ew qh qc qk qv ou cm eq du nx cd ct yd yp ya yf hel mT mK mV eu ev : Nat → Int32}
variable {T : Nat} {K A B c : Nat → Nat}
/-! definitions: their code, contexts by the way down -/
def dop (cO : Nat → Int32) (d : Nat) : Nat → Nat := fun i => (cO (d * 24 + i)).toNatClampNeg
def df (T : Nat) (dp dl dm cO cA cB cC : Nat → Int32) (d n l : Nat) : Prop := dp d = nI n ∧ n ≤ 6 ∧ dl d = nI l ∧ l ≤ 24 ∧ dm d = nI (tm_M (dop cO d) l) ∧ (∀ i, i < l → 0 < tm_M (dop cO d) i) ∧ (∀ i, i < l → cO (d * 24 + i) = nI (dop cO d i) ∧ co_ok T (dop cO d i) (cA (d * 24 + i)) (cB (d * 24 + i)) (cC (d * 24 + i)))
def g0 (pt : Nat → Int32) (d n : Nat) : Nat → Int32 := fun v => if v < 6 then (if v < n then pt (d * 6 + v) else -1) else 0
noncomputable def jst (T : Nat) (K A B : Nat → Nat) (pt cO cA cB cC : Nat → Int32) (d i : Nat) (b : Bool) (g : Nat → Int32) : Nat → Int32 :=
  jc T K A B pt g (dop cO d i) (cA (d * 24 + i)).toNatClampNeg (cB (d * 24 + i)).toNatClampNeg (cC (d * 24 + i)).toNatClampNeg b
noncomputable def jer (T : Nat) (K A B : Nat → Nat) (dd dp pt cO cA cB cC : Nat → Int32) (d i : Nat) (g : Nat → Int32) : Nat :=
  je T K A B dd dp pt g (dop cO d i) (cA (d * 24 + i)).toNatClampNeg (cB (d * 24 + i)).toNatClampNeg (cC (d * 24 + i)).toNatClampNeg
/-- the context of position q -/
noncomputable def cy (T : Nat) (K A B : Nat → Nat) (pt cO cA cB cC : Nat → Int32) (d n l q : Nat) : Nat → Int32 := tm_D (jst T K A B pt cO cA cB cC d) (dop cO d) l q 24 0 (g0 pt d n)
theorem cy_0 {d n l : Nat} : cy T K A B pt cO cA cB cC d n l 0 = g0 pt d n := tm_D_end (Nat.le_refl 0) 24
theorem cy_ch {d n l : Nat} (hl : l ≤ 24) {r q : Nat} {b : Bool} (hq : q < l) (h : tm_ch (dop cO d) l r q b) : cy T K A B pt cO cA cB cC d n l q = jst T K A B pt cO cA cB cC d r b (cy T K A B pt cO cA cB cC d n l r) :=
  tm_D_ch hl hq h 24 0 _ (Nat.zero_le _) (by omega)
theorem cv_g0 (hp : ∀ j, j < 36 → ∃ t, t < T ∧ pt j = nI t) {d n : Nat} (hd : d < 6) : cv T (g0 pt d n) := by
  refine ⟨fun v hv => ?_, fun v hv => ?_⟩
  · unfold g0; rw [if_pos hv]
    split
    · exact Or.inr (hp _ (by omega))
    · exact Or.inl rfl
  · unfold g0; exact if_neg (by omega)
/-- no error below q -/
def gp (T : Nat) (K A B : Nat → Nat) (dd dp pt cO cA cB cC : Nat → Int32) (d n l q : Nat) : Prop := ∀ i, i < q → jer T K A B dd dp pt cO cA cB cC d i (cy T K A B pt cO cA cB cC d n l i) = 0
theorem co_clamp {o : Nat} {x y z : Int32} (ok : co_ok T o x y z) : (6 ≤ o → x.toNatClampNeg < 6) ∧ ((o = 8 ∨ o = 9 ∨ o = 14) → y.toNatClampNeg < 6) ∧ (T ≤ 16 → o = 14 → z.toNatClampNeg < T) := by
  obtain ⟨o15, q1, q6, qb, q10, q13, q14⟩ := ok
  refine ⟨fun p => ?_, fun p => ?_, fun hT p => ?_⟩
  · obtain ⟨a, a1, a2⟩ := q6 p; rw [a2, nI_clamp (by omega)]; exact a1
  · obtain ⟨a, a1, a2⟩ := qb p; rw [a2, nI_clamp (by omega)]; exact a1
  · obtain ⟨a, a1, a2⟩ := q14 p; rw [a2, nI_clamp (by omega)]; exact a1
theorem cv_st (w : ty_W T K A B) {d n l i : Nat} (D : df T dp dl dm cO cA cB cC d n l) (hi : i < l) {g : Nat → Int32} {b : Bool} (hg : cv T g) (he : jer T K A B dd dp pt cO cA cB cC d i g = 0) : cv T (jst T K A B pt cO cA cB cC d i b g) := by
  obtain ⟨_, ok⟩ := D.2.2.2.2.2.2 i hi
  have c1 := co_clamp ok
  exact cv_jc w hg c1.1 c1.2.1 (c1.2.2 w.2.1) he
theorem cv_cy (w : ty_W T K A B) (hp : ∀ j, j < 36 → ∃ t, t < T ∧ pt j = nI t) {d n l : Nat} (hd : d < 6) (D : df T dp dl dm cO cA cB cC d n l) : ∀ m q, q ≤ m → q < l → gp T K A B dd dp pt cO cA cB cC d n l q → cv T (cy T K A B pt cO cA cB cC d n l q) := by
  intro m
  induction m with
  | zero => intro q h1 h2 _; have : q = 0 := by omega
            rw [this, cy_0]; exact cv_g0 hp hd
  | succ m ih =>
    intro q h1 h2 G
    by_cases z : q = 0
    · rw [z, cy_0]; exact cv_g0 hp hd
    · obtain ⟨r, b, r1, r2⟩ := tm_par D.2.2.2.2.2.1 h2 (by omega)
      rw [cy_ch D.2.2.2.1 h2 r2]
      exact cv_st w D (by omega) (ih r (by omega) (by omega) (fun i hi => G i (by omega))) (G r r1)
/-! ends of terms, X and Y -/
theorem wx_te8 {post : Int32 → Prop} {d n l f e : Nat} (hd : d < 6) (D : df T dp dl dm cO cA cB cC d n l) (hf : f ≤ e) (hel : e ≤ l) (hM : ∀ j, f ≤ j → j < e → tm_M (dop cO d) f ≤ tm_M (dop cO d) j) (hE : e = l ∨ tm_M (dop cO d) e + 1 = tm_M (dop cO d) f) (k : post (nI e)) :
    ∀ m i, f ≤ i → i ≤ e → e < m + i → wX_termEnd_8 post (nI d) tY pR cH cP stl cD vd eK eD eP stt oC tk sa sb gK gA gB cl nC dd dp dl dm pt cO cA cB cC cx cu st pd pp pa pf pv es ew qh qc qk qv ou cm m (nI (1 + tm_M (dop cO d) i - tm_M (dop cO d) f)) (nI i) (nI i) := by
  have e1 : (nI d).toNatClampNeg = d := nI_clamp (by omega)
  have i1 : vp_in (nI d) 6 := vp_in_nI hd (by decide)
  obtain ⟨D1, D2, D3, D4, D5, D6, D7⟩ := D
  intro m
  induction m with
  | zero => intro i h1 h2 h3; omega
  | succ m ih =>
    intro i h1 h2 h3
    refine ⟨i1, ?_⟩
    rw [e1, D3]
    by_cases z : i = e
    · subst z
      by_cases y : i = l
      · subst y; exact br_t (nI_le (Nat.le_refl _) (by omega)) k
      · refine br_f (nI_ge (by omega) (by omega)) ?_
        have q := hE.resolve_left y
        rw [show 1 + tm_M (dop cO d) i - tm_M (dop cO d) f = 0 by omega]
        exact br_t (by decide) k
    · have q := hM i h1 (by omega)
      have b := tm_M_le (op := dop cO d) i
      obtain ⟨o1, ok⟩ := D7 i (by omega)
      refine br_f (nI_ge (by omega) (by omega)) (br_f (nI_nle (by omega) (by omega)) ?_)
      rw [nu_m24, nI_add, nI_clamp (by omega), o1]
      refine ⟨vp_in_nI (by omega) (by decide), wx_mc ok.1 (nm_r (e' := nI (1 + tm_M (dop cO d) (i + 1) - tm_M (dop cO d) f)) ?_ (nm_r (nI_1 i) (nm_r (nI_1 i) (ih (i + 1) (by omega) (by omega) (by omega)))))⟩
      split
      · next t => rw [tm_ter t, nu_m1 (by omega)]; congr 1; have := D6 i (by omega); omega
      · next t =>
        split
        · next t2 => rw [tm_frk t2, nI_1]; congr 1; omega
        · next t2 => rw [tm_sim t t2, Int32.add_zero]
/-- X's end of the term at f: the code's end if it isn't finished -/
noncomputable def tm_x (op : Nat → Nat) (l f : Nat) : Nat := @dite Nat (∃ e, tm_T op l f e) (Classical.propDecidable _) (fun h => Classical.choose h) (fun _ => l)
theorem tm_x_T {op : Nat → Nat} {l f e : Nat} (h : tm_T op l f e) : tm_x op l f = e := by
  unfold tm_x
  rw [dif_pos ⟨e, h⟩]
  exact tm_T_u (Classical.choose_spec (p := fun e => tm_T op l f e) ⟨e, h⟩) h
theorem tm_x_U {op : Nat → Nat} {l f : Nat} (h : tm_U op l f) : tm_x op l f = l := by
  unfold tm_x
  exact dif_neg (fun ⟨e, he⟩ => tm_T_nU he h)
theorem tm_x_lt {op : Nat → Nat} {l f : Nat} (h : tm_x op l f < l) : tm_T op l f (tm_x op l f) := by
  rcases tm_ex op l f with ⟨e, he⟩ | u
  · rw [tm_x_T he]; exact he
  · rw [tm_x_U u] at h; omega
theorem tm_x_le {op : Nat → Nat} {l f : Nat} : tm_x op l f ≤ l := by
  rcases tm_ex op l f with ⟨e, he⟩ | u
  · rw [tm_x_T he]; exact he.2.1
  · rw [tm_x_U u]; exact Nat.le_refl _
theorem wx_termEnd {post : Int32 → Prop} {d n l f : Nat} (hd : d < 6) (D : df T dp dl dm cO cA cB cC d n l) (hf : f ≤ l) (k : post (nI (tm_x (dop cO d) l f))) : wpX_termEnd post (tY, pR, cH, cP, stl, cD, vd, eK, eD, eP, stt, oC, tk, sa, sb, gK, gA, gB, cl, nC, dd, dp, dl, dm, pt, cO, cA, cB, cC, cx, cu, st, pd, pp, pa, pf, pv, es, ew, qh, qc, qk, qv, ou, cm) (nI d) (nI f) := by
  have e1 : (1 : Int32) = nI (1 + tm_M (dop cO d) f - tm_M (dop cO d) f) := by rw [show 1 + tm_M (dop cO d) f - tm_M (dop cO d) f = 1 by omega]; rfl
  refine ⟨l + 1, ?_⟩
  rw [e1]
  rcases tm_ex (dop cO d) l f with ⟨e, he⟩ | u
  · rw [tm_x_T he] at k
    exact wx_te8 hd D (by have := he.1; omega) he.2.1 he.2.2.2 (Or.inr he.2.2.1) k (l + 1) f (Nat.le_refl _) (by have := he.1; omega) (by have := he.2.1; omega)
  · rw [tm_x_U u] at k
    exact wx_te8 hd D hf (Nat.le_refl _) (fun j h1 h2 => u j h1 (by omega)) (Or.inl rfl) k (l + 1) f (Nat.le_refl _) hf (by omega)
/-- Y's code array holds X's four -/
def cdA (cd cO cA cB cC : Nat → Int32) : Prop := ∀ j, j < 144 → cd (j * 4) = cO j ∧ cd (j * 4 + 1) = cA j ∧ cd (j * 4 + 2) = cB j ∧ cd (j * 4 + 3) = cC j
theorem wy_t52 {post : Int32 → Prop} {J5 : Int32 → Int32 → Prop} {x1 : Int32} {m j : Nat} (hm : m < 2 ^ 31) (k0 : m = 0 → post (nI (j + 1))) (k1 : ¬ m = 0 → J5 (nI m) (nI (j + 1))) : wY_termEnd_52 post J5 x1 (nI m) (nI j) tY pR cH cP cD vd eK eD eP stt mC oC tk sa sb eq du nx dd dp dl dm pt cd ct st yd yp ya yf hel mT mK mV ou eu ev := by
  unfold wY_termEnd_52
  rw [nI_1]
  exact pk_eq m 0 k0 (fun z => nm_e (k1 z))
theorem wy_te5 {post : Int32 → Prop} {d n l f : Nat} (hd : d < 6) (D : df T dp dl dm cO cA cB cC d n l) (hc : cdA cd cO cA cB cC) (k : post (nI (tm_e (dop cO d) l f))) :
    ∀ m j, f ≤ j → j ≤ l → l < m + j → (∀ i, f ≤ i → i ≤ j → tm_M (dop cO d) f ≤ tm_M (dop cO d) i) → wY_termEnd_5 post (nI d) tY pR cH cP cD vd eK eD eP stt mC oC tk sa sb eq du nx dd dp dl dm pt cd ct st yd yp ya yf hel mT mK mV ou eu ev m (nI (1 + tm_M (dop cO d) j - tm_M (dop cO d) f)) (nI j) := by
  have e1 : (nI d).toNatClampNeg = d := nI_clamp (by omega)
  have i1 : vp_in (nI d) 6 := vp_in_nI hd (by decide)
  obtain ⟨D1, D2, D3, D4, D5, D6, D7⟩ := D
  intro m
  induction m with
  | zero => intro j h1 h2 h3; omega
  | succ m ih =>
    intro j h1 h2 h3 I
    refine ⟨i1, ?_⟩
    rw [e1, D3]
    by_cases z : j = l
    · subst z
      rw [tm_e_U (fun i a b => I i a b)] at k
      exact br_t (nI_le (Nat.le_refl _) (by omega)) k
    · have q := I j h1 (Nat.le_refl _)
      have b := tm_M_le (op := dop cO d) j
      have b2 := tm_M_le (op := dop cO d) (j + 1)
      have q0 := D6 j (by omega)
      obtain ⟨o1, ok⟩ := D7 j (by omega)
      refine br_f (nI_ge (by omega) (by omega)) (wy_at (f := 0) hd (by omega) (by omega) ?_)
      rw [Nat.add_zero, (hc (d * 24 + j) (by omega)).1, o1]
      have fin : ∀ x1 : Int32, wY_termEnd_52 post (wY_termEnd_5 post (nI d) tY pR cH cP cD vd eK eD eP stt mC oC tk sa sb eq du nx dd dp dl dm pt cd ct st yd yp ya yf hel mT mK mV ou eu ev m) x1 (nI (1 + tm_M (dop cO d) (j + 1) - tm_M (dop cO d) f)) (nI j) tY pR cH cP cD vd eK eD eP stt mC oC tk sa sb eq du nx dd dp dl dm pt cd ct st yd yp ya yf hel mT mK mV ou eu ev := fun x1 => by
        have dn := tm_dn (op := dop cO d) j
        refine wy_t52 (by omega) (fun p => ?_) (fun p => ih (j + 1) (by omega) (by omega) (by omega) (fun i a1 a2 => ?_))
        · have t : tm_T (dop cO d) l f (j + 1) := ⟨by omega, by omega, by omega, fun i a1 a2 => I i a1 (by omega)⟩
          rw [tm_e_T t] at k; exact k
        · by_cases y : i = j + 1
          · subst y; omega
          · exact I i a1 (by omega)
      have t40 : ∀ x3 : Int32, x3 + (if dop cO d j = 5 ∨ dop cO d j = 11 then 1 else 0) = nI (1 + tm_M (dop cO d) (j + 1) - tm_M (dop cO d) f) → wY_termEnd_40 post (wY_termEnd_5 post (nI d) tY pR cH cP cD vd eK eD eP stt mC oC tk sa sb eq du nx dd dp dl dm pt cd ct st yd yp ya yf hel mT mK mV ou eu ev m) (nI d) x3 (nI j) (nI (dop cO d j)) tY pR cH cP cD vd eK eD eP stt mC oC tk sa sb eq du nx dd dp dl dm pt cd ct st yd yp ya yf hel mT mK mV ou eu ev := fun x3 hx => by
        refine wy_forks ok.1 ?_
        by_cases y : dop cO d j = 5 ∨ dop cO d j = 11
        · rw [if_pos y] at hx ⊢
          exact br_f nu_10 (nm_r hx (fin _))
        · rw [if_neg y] at hx ⊢
          rw [Int32.add_zero] at hx
          rw [hx]
          exact br_t rfl (fin _)
      have ter : (dop cO d j = 0 ∨ dop cO d j = 1) → wY_termEnd_37 post (wY_termEnd_5 post (nI d) tY pR cH cP cD vd eK eD eP stt mC oC tk sa sb eq du nx dd dp dl dm pt cd ct st yd yp ya yf hel mT mK mV ou eu ev m) (nI d) (nI (1 + tm_M (dop cO d) j - tm_M (dop cO d) f)) (nI j) (nI (dop cO d j)) tY pR cH cP cD vd eK eD eP stt mC oC tk sa sb eq du nx dd dp dl dm pt cd ct st yd yp ya yf hel mT mK mV ou eu ev := fun t => by
        refine nm_r (nu_m1 (by omega)) (t40 _ ?_)
        rw [if_neg (by omega), Int32.add_zero, tm_ter t]; congr 1; omega
      refine pk_eq (dop cO d j) 0 (fun t => ter (Or.inl t)) (fun t0 => pk_eq (dop cO d j) 1 (fun t => ter (Or.inr t)) (fun t1 => t40 _ ?_) rfl rfl (by have := ok.1; omega) (by omega)) rfl rfl (by have := ok.1; omega) (by omega)
      by_cases y : dop cO d j = 5 ∨ dop cO d j = 11
      · rw [if_pos y, tm_frk y, nI_1]; congr 1; omega
      · rw [if_neg y, tm_sim (by omega) y, Int32.add_zero]
theorem wy_termEnd {post : Int32 → Prop} {d n l f : Nat} (hd : d < 6) (D : df T dp dl dm cO cA cB cC d n l) (hc : cdA cd cO cA cB cC) (hf : f ≤ l) (k : post (nI (tm_e (dop cO d) l f))) : wpY_termEnd post (tY, pR, cH, cP, cD, vd, eK, eD, eP, stt, mC, oC, tk, sa, sb, eq, du, nx, dd, dp, dl, dm, pt, cd, ct, st, yd, yp, ya, yf, hel, mT, mK, mV, ou, eu, ev) (nI d) (nI f) := by
  have e1 : (1 : Int32) = nI (1 + tm_M (dop cO d) f - tm_M (dop cO d) f) := by rw [show 1 + tm_M (dop cO d) f - tm_M (dop cO d) f = 1 by omega]; rfl
  refine ⟨l + 1, ?_⟩
  rw [e1]
  exact wy_te5 hd D hc k (l + 1) f (Nat.le_refl _) hf (by omega) (fun i h1 h2 => by
    have : i = f := by omega
    rw [this]; exact Nat.le_refl _)
end CTX
end
section
section XCH
variable {tY pR cH cP stl cD vd eK eD eP stt oC : Int32} {tk sa sb gK gA gB cl nC dd dp dl dm pt cO cA cB cC cx cu st pd pp pa pf pv es ew qh qc qk qv ou cm : Nat → Int32}
variable {T : Nat} {K A B c : Nat → Nat}
/-! X: contexts stored and handed on -/
theorem wx_sc24 {post : SX → Prop} {b : Nat} (hb : b + 6 ≤ 864) (k : post (tY, pR, cH, cP, stl, cD, vd, eK, eD, eP, stt, oC, tk, sa, sb, gK, gA, gB, cl, nC, dd, dp, dl, dm, pt, cO, cA, cB, cC, fw cx b 6 cu, cu, st, pd, pp, pa, pf, pv, es, ew, qh, qc, qk, qv, ou, cm)) : ∀ n v, v ≤ 6 → 6 < n + v → wX_storeContext_24 post (nI b) tY pR cH cP stl cD vd eK eD eP stt oC n (nI v) tk sa sb gK gA gB cl nC dd dp dl dm pt cO cA cB cC (fw cx b v cu) cu st pd pp pa pf pv es ew qh qc qk qv ou cm := by
  intro n
  induction n with
  | zero => intro v h1 h2; omega
  | succ n ih =>
    intro v h1 h2
    by_cases h : v = 6
    · subst h; exact br_t (nI_le (a := 6) (b := 6) (by omega) (by decide)) k
    · refine br_f (nI_ge (b := 6) (by omega) (by decide)) ⟨vp_in_nI (by omega) (by decide), ?_⟩
      rw [nI_add, nI_clamp (show b + v < 2 ^ 31 by omega), nI_clamp (show v < 2 ^ 31 by omega)]
      exact ⟨vp_in_nI (by omega) (by decide), nm_r (fw_s _ _ _ _ rfl) (nm_r (nI_1 v) (ih (v + 1) (by omega) (by omega)))⟩
theorem wx_store {post : SX → Prop} {d q l : Nat} (hd : d < 6) (hl : dl d = nI l) (h24 : l ≤ 24) (hq : q ≤ 24) (k1 : q < l → post (tY, pR, cH, cP, stl, cD, vd, eK, eD, eP, stt, oC, tk, sa, sb, gK, gA, gB, cl, nC, dd, dp, dl, dm, pt, cO, cA, cB, cC, fw cx ((d * 24 + q) * 6) 6 cu, cu, st, pd, pp, pa, pf, pv, es, ew, qh, qc, qk, qv, ou, cm)) (k0 : l ≤ q → post (tY, pR, cH, cP, stl, cD, vd, eK, eD, eP, stt, oC, tk, sa, sb, gK, gA, gB, cl, nC, dd, dp, dl, dm, pt, cO, cA, cB, cC, cx, cu, st, pd, pp, pa, pf, pv, es, ew, qh, qc, qk, qv, ou, cm)) : wpX_storeContext post (tY, pR, cH, cP, stl, cD, vd, eK, eD, eP, stt, oC, tk, sa, sb, gK, gA, gB, cl, nC, dd, dp, dl, dm, pt, cO, cA, cB, cC, cx, cu, st, pd, pp, pa, pf, pv, es, ew, qh, qc, qk, qv, ou, cm) (nI d) (nI q) := by
  have e1 : (nI d).toNatClampNeg = d := nI_clamp (by omega)
  refine ⟨vp_in_nI hd (by decide), ?_⟩
  rw [e1, hl]
  refine pk_lt q l (fun z => nm_r (e' := nI ((d * 24 + q) * 6)) (by rw [nu_m24, nI_add, nu_m6]) ⟨7, ?_⟩) k0
  have := wx_sc24 (cx := cx) (b := (d * 24 + q) * 6) (by omega) (k1 z) 7 0 (by omega) (by omega)
  rw [fw_0] at this
  exact this
theorem wx_lc2 {post : SX → Prop} {i : Nat} (hi : i < 144) (k : post (tY, pR, cH, cP, stl, cD, vd, eK, eD, eP, stt, oC, tk, sa, sb, gK, gA, gB, cl, nC, dd, dp, dl, dm, pt, cO, cA, cB, cC, cx, fw cu 0 6 (fun v => cx (i * 6 + v)), st, pd, pp, pa, pf, pv, es, ew, qh, qc, qk, qv, ou, cm)) : ∀ n v, v ≤ 6 → 6 < n + v → wX_loadContext_2 post (nI i) tY pR cH cP stl cD vd eK eD eP stt oC n (nI v) tk sa sb gK gA gB cl nC dd dp dl dm pt cO cA cB cC cx (fw cu 0 v (fun v => cx (i * 6 + v))) st pd pp pa pf pv es ew qh qc qk qv ou cm := by
  intro n
  induction n with
  | zero => intro v h1 h2; omega
  | succ n ih =>
    intro v h1 h2
    by_cases h : v = 6
    · subst h; exact br_t (nI_le (a := 6) (b := 6) (by omega) (by decide)) k
    · refine br_f (nI_ge (b := 6) (by omega) (by decide)) ?_
      rw [nu_m6, nI_add, nI_clamp (show i * 6 + v < 2 ^ 31 by omega), show (nI v).toNatClampNeg = 0 + v by rw [nI_clamp (by omega)]; omega]
      exact ⟨vp_in_nI (by omega) (by decide), vp_in_nI (by omega) (by decide), nm_r (fw_s _ _ _ _ rfl) (nm_r (nI_1 v) (ih (v + 1) (by omega) (by omega)))⟩
theorem fw6 {a f g : Nat → Int32} (h0 : ∀ v, 6 ≤ v → a v = 0) (hg : ∀ v, 6 ≤ v → g v = 0) (hf : ∀ v, v < 6 → f v = g v) : fw a 0 6 f = g := by
  funext v
  unfold fw
  by_cases z : v < 6
  · rw [if_pos (by omega), Nat.sub_zero]; exact hf v z
  · rw [if_neg (by omega), h0 v (by omega), hg v (by omega)]
theorem wx_load {post : SX → Prop} {i : Nat} {g : Nat → Int32} (hi : i < 144) (h0 : ∀ v, 6 ≤ v → cu v = 0) (hg : ∀ v, 6 ≤ v → g v = 0) (hx : ∀ v, v < 6 → cx (i * 6 + v) = g v) (k : post (tY, pR, cH, cP, stl, cD, vd, eK, eD, eP, stt, oC, tk, sa, sb, gK, gA, gB, cl, nC, dd, dp, dl, dm, pt, cO, cA, cB, cC, cx, g, st, pd, pp, pa, pf, pv, es, ew, qh, qc, qk, qv, ou, cm)) : wpX_loadContext post (tY, pR, cH, cP, stl, cD, vd, eK, eD, eP, stt, oC, tk, sa, sb, gK, gA, gB, cl, nC, dd, dp, dl, dm, pt, cO, cA, cB, cC, cx, cu, st, pd, pp, pa, pf, pv, es, ew, qh, qc, qk, qv, ou, cm) (nI i) := by
  have := wx_lc2 (post := post) (cu := cu) (cx := cx) hi (by rw [fw6 h0 hg hx]; exact k) 7 0 (by omega) (by omega)
  rw [fw_0] at this
  exact ⟨7, this⟩
/-- what handing on leaves in the contexts' array -/
def ph (T : Nat) (K A B : Nat → Nat) (pt cO cA cB cC : Nat → Int32) (d l r : Nat) (g cx cx' : Nat → Int32) : Prop :=
  (∀ q b, q < l → tm_ch (dop cO d) l r q b → ∀ v, v < 6 → cx' ((d * 24 + q) * 6 + v) = jst T K A B pt cO cA cB cC d r b g v) ∧
  (∀ q, q < l → (∀ b, ¬ tm_ch (dop cO d) l r q b) → ∀ v, v < 6 → cx' ((d * 24 + q) * 6 + v) = cx ((d * 24 + q) * 6 + v)) ∧ (∀ j, j < d * 144 → cx' j = cx j)
theorem fw_q {a f : Nat → Int32} {d q q' v : Nat} (hv : v < 6) (h : q' ≠ q) : fw a ((d * 24 + q) * 6) 6 f ((d * 24 + q') * 6 + v) = a ((d * 24 + q') * 6 + v) := fw_out (by omega)
theorem wx_passOn {post : SX → Prop} (w : ty_W T K A B) (ha : tt_A K A B tk sa sb) {d n l r : Nat} (hd : d < 6) (D : df T dp dl dm cO cA cB cC d n l) (hr : r < l) {g : Nat → Int32} (hg : cv T g) (he : jer T K A B dd dp pt cO cA cB cC d r g = 0)
    (hcu : cu = if dop cO d r = 11 then g else jst T K A B pt cO cA cB cC d r false g)
    (kk : ∀ cx' cu' : Nat → Int32, ph T K A B pt cO cA cB cC d l r g cx cx' → (∀ v, 6 ≤ v → cu' v = 0) → post (tY, pR, cH, cP, stl, cD, vd, eK, eD, eP, stt, oC, tk, sa, sb, gK, gA, gB, cl, nC, dd, dp, dl, dm, pt, cO, cA, cB, cC, cx', cu', st, pd, pp, pa, pf, pv, es, ew, qh, qc, qk, qv, ou, cm)) : wpX_passOn post (tY, pR, cH, cP, stl, cD, vd, eK, eD, eP, stt, oC, tk, sa, sb, gK, gA, gB, cl, nC, dd, dp, dl, dm, pt, cO, cA, cB, cC, cx, cu, st, pd, pp, pa, pf, pv, es, ew, qh, qc, qk, qv, ou, cm) (nI d) (nI r) := by
  have hT := w.2.1
  obtain ⟨D1, D2, D3, D4, D5, D6, D7⟩ := D
  obtain ⟨o1, ok⟩ := D7 r hr
  have D : df T dp dl dm cO cA cB cC d n l := ⟨D1, D2, D3, D4, D5, D6, D7⟩
  have o15 := ok.1
  have i1 : vp_in (nI (d * 24 + r)) 144 := vp_in_nI (by omega) (by decide)
  have e1 : (nI (d * 24 + r)).toNatClampNeg = d * 24 + r := nI_clamp (by omega)
  have hst : ∀ b, cv T (jst T K A B pt cO cA cB cC d r b g) := fun b => cv_st w D hr hg he
  have hz : ∀ v, 6 ≤ v → cu v = 0 := fun v hv => by
    rw [hcu]; split
    · exact hg.2 v hv
    · exact (hst false).2 v hv
  have e24 : nI d * 24 + nI r = nI (d * 24 + r) := by rw [nu_m24, nI_add]
  refine nm_r e24 ⟨i1, nm_r (e' := nI (dop cO d r)) (by rw [e1]; exact o1) ?_⟩
  have ter : (dop cO d r = 0 ∨ dop cO d r = 1) → post (tY, pR, cH, cP, stl, cD, vd, eK, eD, eP, stt, oC, tk, sa, sb, gK, gA, gB, cl, nC, dd, dp, dl, dm, pt, cO, cA, cB, cC, cx, cu, st, pd, pp, pa, pf, pv, es, ew, qh, qc, qk, qv, ou, cm) := fun t => kk cx cu ⟨fun q b hq hc => by
      rcases hc with ⟨_, _, c3⟩ | ⟨_, c2, _⟩
      · exact absurd t c3
      · omega, fun _ _ _ _ _ => rfl, fun _ _ => rfl⟩ hz
  refine pk_eq (dop cO d r) 0 (fun t => ter (Or.inl t)) (fun t0 => pk_eq (dop cO d r) 1 (fun t => ter (Or.inr t)) (fun t1 => pk_eq (dop cO d r) 5 (fun t5 => ?_) (fun t5 => pk_eq (dop cO d r) 11 (fun t11 => ?_) (fun t11 => ?_))))
  · -- I_IF
    rw [if_neg (by omega)] at hcu
    have hs : ∀ b, jst T K A B pt cO cA cB cC d r b g = cu := fun b => by rw [hcu]; unfold jst; rw [jc_lt (by omega), jc_lt (by omega)]
    rw [nI_1]
    refine wx_termEnd hd D (by omega) (wx_store hd D3 D4 (by omega) (fun z => ?_) (fun z => ?_))
    · refine wx_store hd D3 D4 (by have := tm_x_le (op := dop cO d) (l := l) (f := r + 1); omega) (fun y => ?_) (fun y => ?_)
      · have t := tm_x_lt y
        refine kk _ _ ⟨fun q b hq hc v hv => ?_, fun q hq hc v hv => ?_, fun j hj => ?_⟩ hz
        · rw [hs]
          rcases hc with ⟨_, c2, _⟩ | ⟨_, _, c3⟩
          · rw [fw_q hv (by have := t.1; omega), c2, fw_at hv]
          · rw [tm_T_u c3 t, fw_at hv]
        · rw [fw_q hv (fun p => hc true (Or.inr ⟨rfl, Or.inl t5, by rw [p]; exact t⟩)), fw_q hv (fun p => hc false (Or.inl ⟨rfl, p, by omega⟩))]
        · rw [fw_out (by omega), fw_out (by omega)]
      · refine kk _ _ ⟨fun q b hq hc v hv => ?_, fun q hq hc v hv => ?_, fun j hj => ?_⟩ hz
        · rw [hs]
          rcases hc with ⟨_, c2, _⟩ | ⟨_, _, c3⟩
          · rw [c2, fw_at hv]
          · rw [tm_x_T c3] at y; omega
        · rw [fw_q hv (fun p => hc false (Or.inl ⟨rfl, p, by omega⟩))]
        · rw [fw_out (by omega)]
    · refine wx_store hd D3 D4 (by have := tm_x_le (op := dop cO d) (l := l) (f := r + 1); omega) (fun y => ?_) (fun y => ?_)
      · have t := tm_x_lt y
        have := t.1
        omega
      · refine kk _ _ ⟨fun q b hq hc v hv => ?_, fun q hq hc v hv => rfl, fun j hj => rfl⟩ hz
        rcases hc with ⟨_, c2, _⟩ | ⟨_, _, c3⟩
        · omega
        · rw [tm_x_T c3] at y; omega
  · -- I_BRANCH
    rw [if_pos t11] at hcu
    subst hcu
    obtain ⟨a, a1, a2⟩ := ok.2.2.1 (by omega)
    have ca : (cA (d * 24 + r)).toNatClampNeg = a := by rw [a2, nI_clamp (by omega)]
    have hn : ¬ cu a < 0 := fun q => by
      unfold jer at he
      rw [t11, je_S (by omega), ca, jeS_3 q] at he
      omega
    obtain ⟨t, t1, t2⟩ := cv_in hg a1 hn
    have hs : ∀ b, jst T K A B pt cO cA cB cC d r b cu = upd cu a (if b = true then nI (B t) else nI (A t)) := fun b => by
      unfold jst; rw [t11, jc_11, ca, t2, nI_clamp (by omega)]
    have i2 : vp_in (nI a) 6 := vp_in_nI a1 (by decide)
    have i3 : vp_in (nI t) 16 := vp_in_nI (by omega) (by decide)
    have e2 : (nI a).toNatClampNeg = a := nI_clamp (by omega)
    have e3 : (nI t).toNatClampNeg = t := nI_clamp (by omega)
    have hz2 : ∀ x : Int32, ∀ v, 6 ≤ v → upd cu a x v = 0 := fun x v hv => by rw [pk_un (by omega)]; exact hz v hv
    refine ⟨i1, nm_r (e' := nI a) (by rw [e1]; exact a2) ⟨i2, nm_r (e' := nI t) (by rw [e2]; exact t2) ?_⟩⟩
    rw [nI_1]
    refine wx_termEnd hd D (by omega) ⟨i3, i2, nm_r (e' := upd cu a (nI (A t))) (by rw [e2, e3, (ha t (by omega)).2.1]) (wx_store hd D3 D4 (by omega) (fun z => ?_) (fun z => ?_))⟩
    · refine ⟨i3, i2, nm_r (e' := upd cu a (nI (B t))) (by rw [e2, e3, (ha t (by omega)).2.2, up_up]) (wx_store hd D3 D4 (by have := tm_x_le (op := dop cO d) (l := l) (f := r + 1); omega) (fun y => ?_) (fun y => ?_))⟩
      · have tt := tm_x_lt y
        refine kk _ _ ⟨fun q b hq hc v hv => ?_, fun q hq hc v hv => ?_, fun j hj => ?_⟩ (hz2 _)
        · rw [hs]
          rcases hc with ⟨c1, c2, _⟩ | ⟨c1, _, c3⟩
          · rw [fw_q hv (by have := tt.1; omega), c2, fw_at hv, c1]; rfl
          · rw [tm_T_u c3 tt, fw_at hv, c1]; rfl
        · rw [fw_q hv (fun p => hc true (Or.inr ⟨rfl, Or.inr t11, by rw [p]; exact tt⟩)), fw_q hv (fun p => hc false (Or.inl ⟨rfl, p, by omega⟩))]
        · rw [fw_out (by omega), fw_out (by omega)]
      · refine kk _ _ ⟨fun q b hq hc v hv => ?_, fun q hq hc v hv => ?_, fun j hj => ?_⟩ (hz2 _)
        · rw [hs]
          rcases hc with ⟨c1, c2, _⟩ | ⟨_, _, c3⟩
          · rw [c2, fw_at hv, c1]; rfl
          · rw [tm_x_T c3] at y; omega
        · rw [fw_q hv (fun p => hc false (Or.inl ⟨rfl, p, by omega⟩))]
        · rw [fw_out (by omega)]
    · refine ⟨i3, i2, nm_r (e' := upd cu a (nI (B t))) (by rw [e2, e3, (ha t (by omega)).2.2, up_up]) (wx_store hd D3 D4 (by have := tm_x_le (op := dop cO d) (l := l) (f := r + 1); omega) (fun y => ?_) (fun y => ?_))⟩
      · have tt := tm_x_lt y
        have := tt.1
        omega
      · refine kk _ _ ⟨fun q b hq hc v hv => ?_, fun q hq hc v hv => rfl, fun j hj => rfl⟩ (hz2 _)
        rcases hc with ⟨_, c2, _⟩ | ⟨_, _, c3⟩
        · omega
        · rw [tm_x_T c3] at y; omega
  · rw [if_neg t11] at hcu
    rw [nI_1]
    refine wx_store hd D3 D4 (by omega) (fun z => ?_) (fun z => ?_)
    · refine kk _ _ ⟨fun q b hq hc v hv => ?_, fun q hq hc v hv => ?_, fun j hj => ?_⟩ hz
      · rcases hc with ⟨c1, c2, _⟩ | ⟨_, c2, _⟩
        · rw [c2, fw_at hv, c1, hcu]
        · omega
      · rw [fw_q hv (fun p => hc false (Or.inl ⟨rfl, p, by omega⟩))]
      · rw [fw_out (by omega)]
    · refine kk _ _ ⟨fun q b hq hc v hv => ?_, fun q hq hc v hv => rfl, fun j hj => rfl⟩ hz
      rcases hc with ⟨_, c2, _⟩ | ⟨_, c2, _⟩ <;> omega
end XCH
end
section
section XC2
variable {tY pR cH cP stl cD vd eK eD eP stt oC : Int32} {tk sa sb gK gA gB cl nC dd dp dl dm pt cO cA cB cC cx cu st pd pp pa pf pv es ew qh qc qk qv ou cm : Nat → Int32}
variable {T : Nat} {K A B c : Nat → Nat}
theorem je_le {g : Nat → Int32} {o a b d : Nat} : je T K A B dd dp pt g o a b d ≤ 9 := by
  have f7 : ∀ m d f, jf K A B dd dp pt g m d f ≤ 7 := fun m d f => by
    unfold jf
    split
    · omega
    · split
      · split <;> omega
      · omega
  have h8 : je8 K A B g a b ≤ 9 := by
    unfold je8
    split
    · omega
    · split
      · omega
      · split
        · omega
        · split
          · split <;> omega
          · omega
  have h9 : je9 K g a b ≤ 9 := by
    unfold je9
    split
    · omega
    · split
      · split <;> omega
      · omega
  have hS : jeS K g o a ≤ 9 := by
    unfold jeS
    generalize (if o = 12 then 0 else o - 5) = q
    split
    · omega
    · split <;> omega
  have h13 : je13 T K A B dd dp pt g a b d ≤ 9 := by
    unfold je13
    split
    · split
      · split
        · split <;> omega
        · have := f7 d b 1; omega
      · omega
    · omega
  have h14 : je14 T K A B g a b d ≤ 9 := by
    unfold je14
    split
    · omega
    · split
      · split
        · split <;> omega
        · omega
      · omega
  unfold je
  split
  · split <;> omega
  · split
    · have := f7 (jm g) a 0; omega
    · split
      · omega
      · split
        · exact h8
        · split
          · exact h9
          · split
            · exact h13
            · split
              · exact h14
              · exact hS
/-- the contexts of d recorded below m -/
def cr_ (T : Nat) (K A B : Nat → Nat) (pt cO cA cB cC : Nat → Int32) (d n l m : Nat) (cx : Nat → Int32) : Prop := ∀ q, q < l → q < m → ∀ v, v < 6 → cx ((d * 24 + q) * 6 + v) = cy T K A B pt cO cA cB cC d n l q v
theorem wx_cd53 {post : Int32 → SX → Prop} (h : xr T K A B c tk sa sb cl pt dp) {d n l : Nat} (hd : d < 6) (D : df T dp dl dm cO cA cB cC d n l) {cx0 : Nat → Int32}
    (kF : ∀ (cx cu : Nat → Int32) (r : Nat), r < l → gp T K A B dd dp pt cO cA cB cC d n l r → ¬ jer T K A B dd dp pt cO cA cB cC d r (cy T K A B pt cO cA cB cC d n l r) = 0 → cr_ T K A B pt cO cA cB cC d n l (r + 1) cx → (∀ j, j < d * 144 → cx j = cx0 j) → (∀ v, 6 ≤ v → cu v = 0) → post 0 (nI T, pR, cH, cP, stl, cD, 3, nI (jer T K A B dd dp pt cO cA cB cC d r (cy T K A B pt cO cA cB cC d n l r)), nI d, nI r, stt, oC, tk, sa, sb, gK, gA, gB, cl, nC, dd, dp, dl, dm, pt, cO, cA, cB, cC, cx, cu, st, pd, pp, pa, pf, pv, es, ew, qh, qc, qk, qv, ou, cm))
    (kI : ∀ (cx cu : Nat → Int32), gp T K A B dd dp pt cO cA cB cC d n l l → ¬ dm d = 0 → cr_ T K A B pt cO cA cB cC d n l l cx → (∀ j, j < d * 144 → cx j = cx0 j) → (∀ v, 6 ≤ v → cu v = 0) → post 0 (nI T, pR, cH, cP, stl, cD, 3, 2, nI d, nI l, stt, oC, tk, sa, sb, gK, gA, gB, cl, nC, dd, dp, dl, dm, pt, cO, cA, cB, cC, cx, cu, st, pd, pp, pa, pf, pv, es, ew, qh, qc, qk, qv, ou, cm))
    (kO : ∀ (cx cu : Nat → Int32), gp T K A B dd dp pt cO cA cB cC d n l l → dm d = 0 → cr_ T K A B pt cO cA cB cC d n l l cx → (∀ j, j < d * 144 → cx j = cx0 j) → (∀ v, 6 ≤ v → cu v = 0) → post 1 (nI T, pR, cH, cP, stl, cD, vd, eK, eD, eP, stt, oC, tk, sa, sb, gK, gA, gB, cl, nC, dd, dp, dl, dm, pt, cO, cA, cB, cC, cx, cu, st, pd, pp, pa, pf, pv, es, ew, qh, qc, qk, qv, ou, cm)) :
    ∀ m r (cx cu : Nat → Int32), r ≤ l → l < m + r → gp T K A B dd dp pt cO cA cB cC d n l r → (∀ q, q < l → (q = 0 ∨ ∃ r' b, r' < r ∧ tm_ch (dop cO d) l r' q b) → ∀ v, v < 6 → cx ((d * 24 + q) * 6 + v) = cy T K A B pt cO cA cB cC d n l q v) → (∀ j, j < d * 144 → cx j = cx0 j) → (∀ v, 6 ≤ v → cu v = 0) →
      wX_checkDefinition_53 post (nI d) m (nI r) (nI T) pR cH cP stl cD vd eK eD eP stt oC tk sa sb gK gA gB cl nC dd dp dl dm pt cO cA cB cC cx cu st pd pp pa pf pv es ew qh qc qk qv ou cm := by
  have e1 : (nI d).toNatClampNeg = d := nI_clamp (by omega)
  have i1 : vp_in (nI d) 6 := vp_in_nI hd (by decide)
  have par : ∀ q, q < l → q = 0 ∨ ∃ r' b, r' < q ∧ tm_ch (dop cO d) l r' q b := fun q hq => by
    by_cases z : q = 0
    · exact Or.inl z
    · obtain ⟨r', b, r1, r2⟩ := tm_par D.2.2.2.2.2.1 hq (by omega)
      exact Or.inr ⟨r', b, r1, r2⟩
  intro m
  induction m with
  | zero => intro r cx cu h1 h2; omega
  | succ m ih =>
    intro r cx cu h1 h2 G I J Z
    have rcd : ∀ m, m ≤ r + 1 → cr_ T K A B pt cO cA cB cC d n l m cx := fun m hm q hq hq2 v hv => by
      refine I q hq ?_ v hv
      rcases par q hq with z | ⟨r', b, r1, r2⟩
      · exact Or.inl z
      · exact Or.inr ⟨r', b, by omega, r2⟩
    refine ⟨i1, ?_⟩
    rw [e1, D.2.2.1]
    by_cases z : r = l
    · subst z
      refine br_t (nI_le (Nat.le_refl _) (by have := D.2.2.2.1; omega)) ⟨i1, ?_⟩
      refine br_c (fun y => ?_) (fun y => ⟨i1, ?_⟩)
      · exact kO cx cu G y (rcd r (by omega)) J Z
      · exact kI cx cu G y (rcd r (by omega)) J Z
    · have hr : r < l := by omega
      have l24 := D.2.2.2.1
      have hcv := cv_cy (dd := dd) h.1 h.2.2.2.2.1 hd D r r (Nat.le_refl _) hr G
      obtain ⟨o1, ok⟩ := D.2.2.2.2.2.2 r hr
      refine br_f (nI_ge (by omega) (by omega)) (nm_r (e' := nI (d * 24 + r)) (by rw [nu_m24, nI_add]) ?_)
      refine wx_load (g := cy T K A B pt cO cA cB cC d n l r) (by omega) Z hcv.2 (fun v hv => rcd (r + 1) (Nat.le_refl _) r hr (by omega) v hv) ?_
      refine wx_rule h hcv (by omega) o1 ok (fun y => ?_) (fun y => ?_)
      · refine br_t rfl (wx_passOn h.1 h.2.1 hd D hr hcv y rfl (fun cx' cu' P Z' => ?_))
        refine nm_r (nI_1 r) (ih (r + 1) cx' cu' (by omega) (by omega) (fun i hi => ?_) (fun q hq hp v hv => ?_) (fun j hj => (P.2.2 j hj).trans (J j hj)) Z')
        · by_cases e : i = r
          · rw [e]; exact y
          · exact G i (by omega)
        · by_cases hc : ∃ b, tm_ch (dop cO d) l r q b
          · obtain ⟨b, hb⟩ := hc
            rw [P.1 q b hq hb v hv, cy_ch l24 hq hb]
          · rw [P.2.1 q hq (fun b hb => hc ⟨b, hb⟩) v hv]
            refine I q hq ?_ v hv
            rcases hp with p | ⟨r', b, r1, r2⟩
            · exact Or.inl p
            · refine Or.inr ⟨r', b, ?_, r2⟩
              by_cases e : r' = r
              · rw [e] at r2; exact absurd ⟨b, r2⟩ hc
              · omega
      · have l9 := je_le (T := T) (K := K) (A := A) (B := B) (dd := dd) (dp := dp) (pt := pt) (g := cy T K A B pt cO cA cB cC d n l r) (o := dop cO d r) (a := cn_i cA (d * 24 + r)) (b := cn_i cB (d * 24 + r)) (d := cn_i cC (d * 24 + r))
        refine br_f (nI_ne0 (by omega) (by omega)) ?_
        exact kF cx _ r hr G y (rcd (r + 1) (Nat.le_refl _)) J hcv.2
theorem g0_at {d n v : Nat} (hv : v < 6) : g0 pt d n v = if v < n then pt (d * 6 + v) else -1 := by unfold g0; rw [if_pos hv]
theorem wx_cd2 {post : Int32 → SX → Prop} {d n l : Nat} (hd : d < 6) (D : df T dp dl dm cO cA cB cC d n l)
    (k : wpX_storeContext (fun u => match u with | (tY, pR, cH, cP, stl, cD, vd, eK, eD, eP, stt, oC, tk, sa, sb, gK, gA, gB, cl, nC, dd, dp, dl, dm, pt, cO, cA, cB, cC, cx, cu, st, pd, pp, pa, pf, pv, es, ew, qh, qc, qk, qv, ou, cm) => (∃ n53 : Nat, wX_checkDefinition_53 post (nI d) n53 0 tY pR cH cP stl cD vd eK eD eP stt oC tk sa sb gK gA gB cl nC dd dp dl dm pt cO cA cB cC cx cu st pd pp pa pf pv es ew qh qc qk qv ou cm)) (tY, pR, cH, cP, stl, cD, vd, eK, eD, eP, stt, oC, tk, sa, sb, gK, gA, gB, cl, nC, dd, dp, dl, dm, pt, cO, cA, cB, cC, cx, fw cu 0 6 (g0 pt d n), st, pd, pp, pa, pf, pv, es, ew, qh, qc, qk, qv, ou, cm) (nI d) 0) :
    ∀ m v, v ≤ 6 → 6 < m + v → wX_checkDefinition_2 post (nI d) tY pR cH cP stl cD vd eK eD eP stt oC m (nI v) tk sa sb gK gA gB cl nC dd dp dl dm pt cO cA cB cC cx (fw cu 0 v (g0 pt d n)) st pd pp pa pf pv es ew qh qc qk qv ou cm := by
  have e1 : (nI d).toNatClampNeg = d := nI_clamp (by omega)
  have i1 : vp_in (nI d) 6 := vp_in_nI hd (by decide)
  intro m
  induction m with
  | zero => intro v h1 h2; omega
  | succ m ih =>
    intro v h1 h2
    by_cases h : v = 6
    · subst h; exact br_t (nI_le (a := 6) (b := 6) (by omega) (by decide)) k
    · refine br_f (nI_ge (b := 6) (by omega) (by decide)) ⟨i1, ?_⟩
      have n6 := D.2.1
      have g := g0_at (pt := pt) (d := d) (n := n) (v := v) (by omega)
      have e2 : (nI v).toNatClampNeg = 0 + v := by rw [nI_clamp (by omega)]; omega
      rw [e1, D.1, e2, nu_m6, nI_add, nI_clamp (show d * 6 + v < 2 ^ 31 by omega)]
      refine pk_le n v (fun z => ?_) (fun z => ?_)
      · rw [if_neg (by omega)] at g
        exact ⟨vp_in_nI (by omega) (by decide), nm_r (fw_s _ _ _ _ g.symm) (nm_r (nI_1 v) (ih (v + 1) (by omega) (by omega)))⟩
      · rw [if_pos z] at g
        exact ⟨vp_in_nI (by omega) (by decide), vp_in_nI (by omega) (by decide), nm_r (fw_s _ _ _ _ g.symm) (nm_r (nI_1 v) (ih (v + 1) (by omega) (by omega)))⟩
theorem wx_checkDef {post : Int32 → SX → Prop} (h : xr T K A B c tk sa sb cl pt dp) {d n l : Nat} (hd : d < 6) (D : df T dp dl dm cO cA cB cC d n l) (Z : ∀ v, 6 ≤ v → cu v = 0) {cx0 : Nat → Int32} (J : ∀ j, j < d * 144 → cx j = cx0 j)
    (kF : ∀ (cx cu : Nat → Int32) (r : Nat), r < l → gp T K A B dd dp pt cO cA cB cC d n l r → ¬ jer T K A B dd dp pt cO cA cB cC d r (cy T K A B pt cO cA cB cC d n l r) = 0 → cr_ T K A B pt cO cA cB cC d n l (r + 1) cx → (∀ j, j < d * 144 → cx j = cx0 j) → (∀ v, 6 ≤ v → cu v = 0) → post 0 (nI T, pR, cH, cP, stl, cD, 3, nI (jer T K A B dd dp pt cO cA cB cC d r (cy T K A B pt cO cA cB cC d n l r)), nI d, nI r, stt, oC, tk, sa, sb, gK, gA, gB, cl, nC, dd, dp, dl, dm, pt, cO, cA, cB, cC, cx, cu, st, pd, pp, pa, pf, pv, es, ew, qh, qc, qk, qv, ou, cm))
    (kI : ∀ (cx cu : Nat → Int32), gp T K A B dd dp pt cO cA cB cC d n l l → ¬ dm d = 0 → cr_ T K A B pt cO cA cB cC d n l l cx → (∀ j, j < d * 144 → cx j = cx0 j) → (∀ v, 6 ≤ v → cu v = 0) → post 0 (nI T, pR, cH, cP, stl, cD, 3, 2, nI d, nI l, stt, oC, tk, sa, sb, gK, gA, gB, cl, nC, dd, dp, dl, dm, pt, cO, cA, cB, cC, cx, cu, st, pd, pp, pa, pf, pv, es, ew, qh, qc, qk, qv, ou, cm))
    (kO : ∀ (cx cu : Nat → Int32), gp T K A B dd dp pt cO cA cB cC d n l l → dm d = 0 → cr_ T K A B pt cO cA cB cC d n l l cx → (∀ j, j < d * 144 → cx j = cx0 j) → (∀ v, 6 ≤ v → cu v = 0) → post 1 (nI T, pR, cH, cP, stl, cD, vd, eK, eD, eP, stt, oC, tk, sa, sb, gK, gA, gB, cl, nC, dd, dp, dl, dm, pt, cO, cA, cB, cC, cx, cu, st, pd, pp, pa, pf, pv, es, ew, qh, qc, qk, qv, ou, cm)) :
    wpX_checkDefinition post (nI T, pR, cH, cP, stl, cD, vd, eK, eD, eP, stt, oC, tk, sa, sb, gK, gA, gB, cl, nC, dd, dp, dl, dm, pt, cO, cA, cB, cC, cx, cu, st, pd, pp, pa, pf, pv, es, ew, qh, qc, qk, qv, ou, cm) (nI d) := by
  have l24 := D.2.2.2.1
  have cg := cv_g0 (n := n) h.2.2.2.2.1 hd
  have go := wx_cd53 (post := post) h hd D (cx0 := cx0) kF kI kO (l + 1) 0
  refine ⟨7, ?_⟩
  rw [← fw_0 cu 0 (g0 pt d n)]
  refine wx_cd2 hd D ?_ 7 0 (by omega) (by omega)
  · rw [fw6 Z cg.2 (fun v _ => rfl)]
    refine wx_store (q := 0) hd D.2.2.1 l24 (by omega) (fun z => ?_) (fun z => ?_)
    · refine ⟨l + 1, go _ _ (by omega) (by omega) (fun i hi => absurd hi (Nat.not_lt_zero i)) (fun q hq hp v hv => ?_) (fun j hj => ?_) cg.2⟩
      · rcases hp with p | ⟨r', b, r1, r2⟩
        · rw [p, fw_at hv, cy_0]
        · omega
      · rw [fw_out (by omega)]; exact J j hj
    · refine ⟨l + 1, go _ _ (by omega) (by omega) (fun i hi => absurd hi (Nat.not_lt_zero i)) (fun q hq hp v hv => ?_) J cg.2⟩
      omega
theorem wx_co2 {post : Int32 → Prop} {d n l : Nat} (hd : d < 6) (D : df T dp dl dm cO cA cB cC d n l) (k1 : (∃ i, i < l ∧ dop cO d i = 14) → post 1) (k0 : (¬ ∃ i, i < l ∧ dop cO d i = 14) → post 0) :
    ∀ m i, i ≤ l → l < m + i → (∀ j, j < i → ¬ dop cO d j = 14) → wX_containsOpen_2 post (nI d) tY pR cH cP stl cD vd eK eD eP stt oC tk sa sb gK gA gB cl nC dd dp dl dm pt cO cA cB cC cx cu st pd pp pa pf pv es ew qh qc qk qv ou cm m (nI i) := by
  have e1 : (nI d).toNatClampNeg = d := nI_clamp (by omega)
  have i1 : vp_in (nI d) 6 := vp_in_nI hd (by decide)
  have l24 := D.2.2.2.1
  intro m
  induction m with
  | zero => intro i h1 h2; omega
  | succ m ih =>
    intro i h1 h2 I
    refine ⟨i1, ?_⟩
    rw [e1, D.2.2.1]
    by_cases z : i = l
    · subst z
      exact br_t (nI_le (Nat.le_refl _) (by omega)) (k0 (fun ⟨j, j1, j2⟩ => I j j1 j2))
    · obtain ⟨o1, ok⟩ := D.2.2.2.2.2.2 i (by omega)
      refine br_f (nI_ge (by omega) (by omega)) ?_
      rw [nu_m24, nI_add, nI_clamp (by omega), o1]
      refine ⟨vp_in_nI (by omega) (by decide), pk_eq (dop cO d i) 14 (fun y => k1 ⟨i, by omega, y⟩) (fun y => nm_r (nI_1 i) (ih (i + 1) (by omega) (by omega) (fun j hj => ?_))) rfl rfl (by have := ok.1; omega) (by omega)⟩
      by_cases e : j = i
      · rw [e]; exact y
      · exact I j (by omega)
theorem wx_containsOpen {post : Int32 → Prop} {d n l : Nat} (hd : d < 6) (D : df T dp dl dm cO cA cB cC d n l) (k1 : (∃ i, i < l ∧ dop cO d i = 14) → post 1) (k0 : (¬ ∃ i, i < l ∧ dop cO d i = 14) → post 0) : wpX_containsOpen post (tY, pR, cH, cP, stl, cD, vd, eK, eD, eP, stt, oC, tk, sa, sb, gK, gA, gB, cl, nC, dd, dp, dl, dm, pt, cO, cA, cB, cC, cx, cu, st, pd, pp, pa, pf, pv, es, ew, qh, qc, qk, qv, ou, cm) (nI d) :=
  ⟨l + 1, wx_co2 hd D k1 k0 (l + 1) 0 (by omega) (by omega) (fun j hj => absurd hj (Nat.not_lt_zero j))⟩
end XC2
end
section
section YCH
variable {tY pR cH cP stl cD vd eK eD eP stt oC mC : Int32} {tk sa sb gK gA gB cl nC dd dp dl dm pt cO cA cB cC cx cu st pd pp pa pf pv es ew qh qc qk qv ou cm eq du nx cd ct yd yp ya yf hel mT mK mV eu ev : Nat → Int32}
variable {T : Nat} {K A B : Nat → Nat}
/-! Y: the context of a position found again -/
theorem wy_c50 {post : SY → Prop} (h : yr T K A B tk sa sb eq du pt dp) {d n l q : Nat} (hd : d < 6) (D : df T dp dl dm cO cA cB cC d n l) (hc : cdA cd cO cA cB cC) (hq : q < l) (G : gp T K A B dd dp pt cO cA cB cC d n l q)
    (k : post (nI T, pR, cH, cP, cD, vd, eK, eD, eP, stt, mC, oC, tk, sa, sb, eq, du, nx, dd, dp, dl, dm, pt, cd, cy T K A B pt cO cA cB cC d n l q, st, yd, yp, ya, yf, hel, mT, mK, mV, ou, eu, ev)) :
    ∀ m i x (ct : Nat → Int32), i ≤ q → q < m + i → x ≤ i → tm_P (dop cO d) i q → ct = cy T K A B pt cO cA cB cC d n l i → wY_context_50 post (nI d) (nI q) m (nI i) (nI x) (nI T) pR cH cP cD vd eK eD eP stt mC oC tk sa sb eq du nx dd dp dl dm pt cd ct st yd yp ya yf hel mT mK mV ou eu ev := by
  have l24 := D.2.2.2.1
  intro m
  induction m with
  | zero => intro i x ct h1 h2; omega
  | succ m ih =>
    intro i x ct h1 h2 h3 P hct
    subst hct
    refine br_f (nI_ge (b := 24) (by omega) (by omega)) ?_
    by_cases z : i = q
    · subst z; exact br_t (nI_le (Nat.le_refl _) (by omega)) k
    · have hi : i < q := by omega
      have hil : i < l := by omega
      have hcv := cv_cy (dd := dd) h.1 h.2.2.2.2.1 hd D i i (Nat.le_refl _) hil (fun j hj => G j (by omega))
      obtain ⟨o1, ok⟩ := D.2.2.2.2.2.2 i hil
      obtain ⟨c0, c1, c2, c3⟩ := hc (d * 24 + i) (by omega)
      obtain ⟨nch, nP⟩ := tm_P_nx l24 D.2.2.2.2.2.1 hi hq P
      have ng := tm_nx_gt (op := dop cO d) l24 hi hq
      have ncy := cy_ch (T := T) (K := K) (A := A) (B := B) (pt := pt) (cA := cA) (cB := cB) (cC := cC) (n := n) l24 (show tm_nx (dop cO d) l i q < l by omega) nch
      refine br_f (nI_ge (by omega) (by omega)) ?_
      refine wy_at (f := 0) hd (by omega) (by omega) ?_
      rw [Nat.add_zero, c0, o1, nI_1]
      refine wy_termEnd hd D hc (by omega) ?_
      refine wy_forks ok.1 ?_
      have jf : tm_two (dop cO d) l i q = false → wY_context_100 post (wY_context_50 post (nI d) (nI q) m) (nI d) (nI q) (nI i) (nI x) (nI (tm_e (dop cO d) l (i + 1))) (nI T) pR cH cP cD vd eK eD eP stt mC oC tk sa sb eq du nx dd dp dl dm pt cd (cy T K A B pt cO cA cB cC d n l i) st yd yp ya yf hel mT mK mV ou eu ev := fun tw => by
        have nx1 : tm_nx (dop cO d) l i q = i + 1 := by unfold tm_nx; rw [tw]; rfl
        rw [nx1] at ncy nP
        unfold wY_context_100 wY_context_101
        refine wy_judge (s := false) h hcv hd (by omega) (c0.trans o1) c1 c2 c3 ok (fun _ => ?_) (fun y => absurd (G i hi) y)
        refine br_t rfl (nm_r (nI_1 i) (nm_r (nI_1 x) (ih (i + 1) (x + 1) _ (by omega) (by omega) (by omega) nP ?_)))
        rw [ncy, tw]; rfl
      by_cases fk : dop cO d i = 5 ∨ dop cO d i = 11
      · rw [if_pos fk]
        refine br_f nu_10 ?_
        have elt : tm_e (dop cO d) l (i + 1) < 2 ^ 31 := by
          rcases tm_ex (dop cO d) l (i + 1) with ⟨e, he⟩ | u
          · rw [tm_e_T he]; have := he.2.1; omega
          · rw [tm_e_U u]; omega
        refine pk_lt q (tm_e (dop cO d) l (i + 1)) (fun y => jf ?_) (fun y => ?_) rfl rfl (by omega) elt
        · rcases Bool.eq_false_or_eq_true (tm_two (dop cO d) l i q) with t | t
          · have := (tm_two_t.mp t).2; omega
          · exact t
        · have tw : tm_two (dop cO d) l i q = true := tm_two_t.mpr ⟨fk, y⟩
          have nx1 : tm_nx (dop cO d) l i q = tm_e (dop cO d) l (i + 1) := by unfold tm_nx; rw [tw]; rfl
          rw [nx1] at ncy nP ng
          unfold wY_context_101
          refine wy_judge (s := true) h hcv hd (by omega) (c0.trans o1) c1 c2 c3 ok (fun _ => ?_) (fun y => absurd (G i hi) y)
          refine br_f nu_10 (nm_r (nI_1 x) (ih _ (x + 1) _ ng.2 (by omega) (by omega) nP ?_))
          rw [ncy, tw]; rfl
      · rw [if_neg fk]
        refine br_t rfl (jf ?_)
        rcases Bool.eq_false_or_eq_true (tm_two (dop cO d) l i q) with t | t
        · exact absurd (tm_two_t.mp t).1 fk
        · exact t
theorem wy_c2 {post : SY → Prop} {d n l : Nat} {x2 : Int32} (hd : d < 6) (D : df T dp dl dm cO cA cB cC d n l)
    (k : ∃ m, wY_context_50 post (nI d) x2 m 0 0 tY pR cH cP cD vd eK eD eP stt mC oC tk sa sb eq du nx dd dp dl dm pt cd (fw ct 0 6 (g0 pt d n)) st yd yp ya yf hel mT mK mV ou eu ev) :
    ∀ m v, v ≤ 6 → 6 < m + v → wY_context_2 post (nI d) x2 tY pR cH cP cD vd eK eD eP stt mC oC m (nI v) tk sa sb eq du nx dd dp dl dm pt cd (fw ct 0 v (g0 pt d n)) st yd yp ya yf hel mT mK mV ou eu ev := by
  have e1 : (nI d).toNatClampNeg = d := nI_clamp (by omega)
  have i1 : vp_in (nI d) 6 := vp_in_nI hd (by decide)
  intro m
  induction m with
  | zero => intro v h1 h2; omega
  | succ m ih =>
    intro v h1 h2
    by_cases h : v = 6
    · subst h; exact br_t (nI_le (a := 6) (b := 6) (by omega) (by decide)) k
    · refine br_f (nI_ge (b := 6) (by omega) (by decide)) ⟨i1, ?_⟩
      have n6 := D.2.1
      have g := g0_at (pt := pt) (d := d) (n := n) (v := v) (by omega)
      have e2 : (nI v).toNatClampNeg = 0 + v := by rw [nI_clamp (by omega)]; omega
      rw [e1, D.1, e2, nu_m6, nI_add, nI_clamp (show d * 6 + v < 2 ^ 31 by omega)]
      refine pk_le n v (fun z => ?_) (fun z => ?_)
      · rw [if_neg (by omega)] at g
        exact ⟨vp_in_nI (by omega) (by decide), nm_r (fw_s _ _ _ _ g.symm) (nm_r (nI_1 v) (ih (v + 1) (by omega) (by omega)))⟩
      · rw [if_pos z] at g
        exact ⟨vp_in_nI (by omega) (by decide), vp_in_nI (by omega) (by decide), nm_r (fw_s _ _ _ _ g.symm) (nm_r (nI_1 v) (ih (v + 1) (by omega) (by omega)))⟩
theorem wy_context {post : SY → Prop} (h : yr T K A B tk sa sb eq du pt dp) {d n l q : Nat} (hd : d < 6) (D : df T dp dl dm cO cA cB cC d n l) (hc : cdA cd cO cA cB cC) (hq : q < l) (G : gp T K A B dd dp pt cO cA cB cC d n l q) (Z : ∀ v, 6 ≤ v → ct v = 0)
    (k : post (nI T, pR, cH, cP, cD, vd, eK, eD, eP, stt, mC, oC, tk, sa, sb, eq, du, nx, dd, dp, dl, dm, pt, cd, cy T K A B pt cO cA cB cC d n l q, st, yd, yp, ya, yf, hel, mT, mK, mV, ou, eu, ev)) : wpY_context post (nI T, pR, cH, cP, cD, vd, eK, eD, eP, stt, mC, oC, tk, sa, sb, eq, du, nx, dd, dp, dl, dm, pt, cd, ct, st, yd, yp, ya, yf, hel, mT, mK, mV, ou, eu, ev) (nI d) (nI q) := by
  have cg := cv_g0 (n := n) h.2.2.2.2.1 hd
  refine ⟨7, ?_⟩
  rw [← fw_0 ct 0 (g0 pt d n)]
  refine wy_c2 hd D ⟨q + 1, ?_⟩ 7 0 (by omega) (by omega)
  rw [fw6 Z cg.2 (fun v _ => rfl)]
  exact wy_c50 h hd D hc hq G k (q + 1) 0 0 _ (by omega) (by omega) (by omega) (tm_P_0 D.2.2.2.2.2.1 hq) cy_0.symm
/-! Y: one definition checked -/
def b1 (b : Bool) : Int32 := if b = true then 1 else 0
def od (cO : Nat → Int32) (d : Nat) : Nat → Bool
  | 0 => false
  | r + 1 => od cO d r || decide (dop cO d r = 14)
theorem od_ex {d : Nat} : ∀ l, od cO d l = true ↔ ∃ i, i < l ∧ dop cO d i = 14 := by
  intro l
  induction l with
  | zero => exact ⟨fun h => absurd h (by decide : ¬ false = true), fun ⟨i, h, _⟩ => absurd h (Nat.not_lt_zero i)⟩
  | succ l ih =>
    rw [od, Bool.or_eq_true, ih, decide_eq_true_iff]
    constructor
    · intro h
      rcases h with ⟨i, i1, i2⟩ | h
      · exact ⟨i, by omega, i2⟩
      · exact ⟨l, by omega, h⟩
    · rintro ⟨i, i1, i2⟩
      by_cases e : i = l
      · right; rw [← e]; exact i2
      · left; exact ⟨i, by omega, i2⟩
theorem wy_k52 {post : Int32 → SY → Prop} {J35 : Int32 → Int32 → Int32 → Int32 → Int32 → Int32 → Int32 → Int32 → Int32 → Int32 → Int32 → Int32 → Int32 → Int32 → (Nat → Int32) → (Nat → Int32) → (Nat → Int32) → (Nat → Int32) → (Nat → Int32) → (Nat → Int32) → (Nat → Int32) → (Nat → Int32) → (Nat → Int32) → (Nat → Int32) → (Nat → Int32) → (Nat → Int32) → (Nat → Int32) → (Nat → Int32) → (Nat → Int32) → (Nat → Int32) → (Nat → Int32) → (Nat → Int32) → (Nat → Int32) → (Nat → Int32) → (Nat → Int32) → (Nat → Int32) → (Nat → Int32) → (Nat → Int32) → (Nat → Int32) → Prop} (h : yr T K A B tk sa sb eq du pt dp) {d n l : Nat} (hd : d < 6) (D : df T dp dl dm cO cA cB cC d n l) (hc : cdA cd cO cA cB cC) {f0 : Bool}
    (kF : ∀ (ct : Nat → Int32) (r : Nat), r < l → gp T K A B dd dp pt cO cA cB cC d n l r → ¬ jer T K A B dd dp pt cO cA cB cC d r (cy T K A B pt cO cA cB cC d n l r) = 0 → (∀ v, 6 ≤ v → ct v = 0) → post 3 (nI T, pR, cH, cP, cD, 3, nI (jer T K A B dd dp pt cO cA cB cC d r (cy T K A B pt cO cA cB cC d n l r)), nI d, nI r, stt, mC, oC, tk, sa, sb, eq, du, nx, dd, dp, dl, dm, pt, cd, ct, st, yd, yp, ya, yf, hel, mT, mK, mV, ou, eu, ev))
    (kI : ∀ (ct : Nat → Int32), gp T K A B dd dp pt cO cA cB cC d n l l → ¬ dm d = 0 → (∀ v, 6 ≤ v → ct v = 0) → post 3 (nI T, pR, cH, cP, cD, 3, 2, nI d, nI l, stt, mC, oC, tk, sa, sb, eq, du, nx, dd, dp, dl, dm, pt, cd, ct, st, yd, yp, ya, yf, hel, mT, mK, mV, ou, eu, ev))
    (kO : ∀ (ct : Nat → Int32), gp T K A B dd dp pt cO cA cB cC d n l l → dm d = 0 → (∀ v, 6 ≤ v → ct v = 0) → J35 (b1 (f0 || od cO d l)) (nI (d + 1)) (nI T) pR cH cP cD vd eK eD eP stt mC oC tk sa sb eq du nx dd dp dl dm pt cd ct st yd yp ya yf hel mT mK mV ou eu ev) :
    ∀ m r (ct : Nat → Int32), r ≤ l → l < m + r → gp T K A B dd dp pt cO cA cB cC d n l r → (∀ v, 6 ≤ v → ct v = 0) → wY_check_52 post J35 (nI d) m (b1 (f0 || od cO d r)) (nI r) (nI T) pR cH cP cD vd eK eD eP stt mC oC tk sa sb eq du nx dd dp dl dm pt cd ct st yd yp ya yf hel mT mK mV ou eu ev := by
  have e1 : (nI d).toNatClampNeg = d := nI_clamp (by omega)
  have i1 : vp_in (nI d) 6 := vp_in_nI hd (by decide)
  have l24 := D.2.2.2.1
  intro m
  induction m with
  | zero => intro r ct h1 h2; omega
  | succ m ih =>
    intro r ct h1 h2 G Z
    refine ⟨i1, ?_⟩
    rw [e1, D.2.2.1]
    by_cases z : r = l
    · subst z
      exact br_t (nI_le (Nat.le_refl _) (by omega)) ⟨i1, br_c (fun y => nm_r (nI_1 d) (kO ct G y Z)) (fun y => ⟨i1, kI ct G y Z⟩)⟩
    · have hr : r < l := by omega
      have hcv := cv_cy (dd := dd) h.1 h.2.2.2.2.1 hd D r r (Nat.le_refl _) hr G
      obtain ⟨o1, ok⟩ := D.2.2.2.2.2.2 r hr
      obtain ⟨c0, c1, c2, c3⟩ := hc (d * 24 + r) (by omega)
      refine br_f (nI_ge (by omega) (by omega)) ?_
      refine wy_context h hd D hc hr G Z ?_
      refine wy_judge (s := false) h hcv hd (by omega) (c0.trans o1) c1 c2 c3 ok (fun y => ?_) (fun y => ?_)
      · refine br_t rfl ?_
        refine wy_at (f := 0) hd (by omega) (by omega) ?_
        rw [Nat.add_zero, c0, o1]
        have Z' := (cv_st (b := false) h.1 D hr hcv y).2
        have G' : gp T K A B dd dp pt cO cA cB cC d n l (r + 1) := fun i hi => by
          by_cases e : i = r
          · rw [e]; exact y
          · exact G i (by omega)
        refine pk_eq (dop cO d r) 14 (fun t => nm_r (nI_1 r) ?_) (fun t => nm_r (nI_1 r) ?_) rfl rfl (by have := ok.1; omega) (by omega)
        · have e3 : (1 : Int32) = b1 (f0 || od cO d (r + 1)) := by rw [od, decide_eq_true t, Bool.or_true, Bool.or_true]; rfl
          rw [e3]
          exact ih (r + 1) _ (by omega) (by omega) G' Z'
        · have e3 : od cO d r = od cO d (r + 1) := by rw [od, decide_eq_false t, Bool.or_false]
          rw [e3]
          exact ih (r + 1) _ (by omega) (by omega) G' Z'
      · have l9 := je_le (T := T) (K := K) (A := A) (B := B) (dd := dd) (dp := dp) (pt := pt) (g := cy T K A B pt cO cA cB cC d n l r) (o := dop cO d r) (a := (cA (d * 24 + r)).toNatClampNeg) (b := (cB (d * 24 + r)).toNatClampNeg) (d := (cC (d * 24 + r)).toNatClampNeg)
        exact br_f (nI_ne0 (by omega) (by omega)) (kF _ r hr G y hcv.2)
/-! both: all definitions checked -/
theorem df_u {d n l n' l' : Nat} (h : df T dp dl dm cO cA cB cC d n l) (h' : df T dp dl dm cO cA cB cC d n' l') : n = n' ∧ l = l' := by
  have a := h.2.1; have b := h'.2.1; have c := h.2.2.2.1; have e := h'.2.2.2.1
  exact ⟨(nI_eq (by omega) (by omega)).mp (h.1.symm.trans h'.1), (nI_eq (by omega) (by omega)).mp (h.2.2.1.symm.trans h'.2.2.1)⟩
/-- what a verdict says of the recorded contexts -/
def fc (T : Nat) (K A B : Nat → Nat) (dd dp dl dm pt cO cA cB cC : Nat → Int32) (v k e p : Int32) (cx : Nat → Int32) : Prop :=
  ¬ v = 0 → ¬ k = 1 → ∀ d, d < 6 → ¬ dd d = 0 → ∀ n l, df T dp dl dm cO cA cB cC d n l → ∀ q, q < l → (v = 3 → nI d < e ∨ (nI d = e ∧ nI q ≤ p)) → gp T K A B dd dp pt cO cA cB cC d n l q ∧ ∀ w, w < 6 → cx ((d * 24 + q) * 6 + w) = cy T K A B pt cO cA cB cC d n l q w
def ca (T : Nat) (K A B : Nat → Nat) (dd dp dl dm pt cO cA cB cC : Nat → Int32) (m : Nat) (cx : Nat → Int32) : Prop :=
  ∀ d, d < m → ¬ dd d = 0 → ∀ n l, df T dp dl dm cO cA cB cC d n l → gp T K A B dd dp pt cO cA cB cC d n l l ∧ cr_ T K A B pt cO cA cB cC d n l l cx
theorem ca_ext {m : Nat} {cx cx' : Nat → Int32} (h : ca T K A B dd dp dl dm pt cO cA cB cC m cx) (e : ∀ j, j < m * 144 → cx' j = cx j) : ca T K A B dd dp dl dm pt cO cA cB cC m cx' := by
  intro d hd hn n l D
  obtain ⟨a, b⟩ := h d hd hn n l D
  have l24 := D.2.2.2.1
  refine ⟨a, fun q hq hq2 v hv => ?_⟩
  rw [e _ (by omega)]
  exact b q hq hq2 v hv
theorem gp_le {d n l q r : Nat} (h : gp T K A B dd dp pt cO cA cB cC d n l q) (hr : r ≤ q) : gp T K A B dd dp pt cO cA cB cC d n l r := fun i hi => h i (by omega)
/-- rejected at (d, r): the contexts up to there -/
theorem fc_F {d n l m : Nat} {k p : Int32} {cx : Nat → Int32} (hd : d < 6) (D : df T dp dl dm cO cA cB cC d n l) (C : ca T K A B dd dp dl dm pt cO cA cB cC d cx) (hm : m ≤ l) (G : gp T K A B dd dp pt cO cA cB cC d n l m)
    (R : ∀ q, q < l → nI q ≤ p → q ≤ m ∧ ∀ v, v < 6 → cx ((d * 24 + q) * 6 + v) = cy T K A B pt cO cA cB cC d n l q v) : fc T K A B dd dp dl dm pt cO cA cB cC 3 k (nI d) p cx := by
  intro _ _ d' hd' hn n' l' D' q hq hc
  rcases hc rfl with c | ⟨c1, c2⟩
  · have := (nI_ltI (by omega) (by omega)).mp c
    obtain ⟨a, b⟩ := C d' this hn n' l' D'
    exact ⟨gp_le a (by omega), fun w hw => b q hq hq w hw⟩
  · have e : d' = d := (nI_eq (by omega) (by omega)).mp c1
    subst e
    obtain ⟨e1, e2⟩ := df_u D D'
    subst e1 e2
    obtain ⟨r1, r2⟩ := R q hq c2
    exact ⟨gp_le G r1, r2⟩
def DA (T : Nat) (dd dp dl dm cO cA cB cC : Nat → Int32) : Prop := ∀ d, d < 6 → ¬ dd d = 0 → ∃ n l, df T dp dl dm cO cA cB cC d n l
theorem wb_check (hc : cdA cd cO cA cB cC) (hD : DA T dd dp dl dm cO cA cB cC) : ∀ e d, d + e = 6 → ∀ f : Bool, ∃ v k a p : Int32,
    (∀ (gK gA gB cl nC : Nat → Int32) (c : Nat → Nat), xr T K A B c tk sa sb cl pt dp → ∀ (m : Nat) (cx cu : Nat → Int32) (vd eK eD eP : Int32) (post : Int32 → SX → Prop), 6 < m + d → (∀ v, 6 ≤ v → cu v = 0) → ca T K A B dd dp dl dm pt cO cA cB cC d cx → (∀ cx cu : Nat → Int32, (∀ v, 6 ≤ v → cu v = 0) → fc T K A B dd dp dl dm pt cO cA cB cC v k a p cx → post v (nI T, pR, cH, cP, stl, cD, v, k, a, p, stt, oC, tk, sa, sb, gK, gA, gB, cl, nC, dd, dp, dl, dm, pt, cO, cA, cB, cC, cx, cu, st, pd, pp, pa, pf, pv, es, ew, qh, qc, qk, qv, ou, cm)) → wX_check_39 post m (b1 f) (nI d) (nI T) pR cH cP stl cD vd eK eD eP stt oC tk sa sb gK gA gB cl nC dd dp dl dm pt cO cA cB cC cx cu st pd pp pa pf pv es ew qh qc qk qv ou cm) ∧
    (∀ (eq du nx : Nat → Int32), yr T K A B tk sa sb eq du pt dp → ∀ (m : Nat) (ct : Nat → Int32) (vd eK eD eP : Int32) (post : Int32 → SY → Prop), 6 < m + d → (∀ v, 6 ≤ v → ct v = 0) → (∀ ct : Nat → Int32, (∀ v, 6 ≤ v → ct v = 0) → post v (nI T, pR, cH, cP, cD, v, k, a, p, stt, mC, oC, tk, sa, sb, eq, du, nx, dd, dp, dl, dm, pt, cd, ct, st, yd, yp, ya, yf, hel, mT, mK, mV, ou, eu, ev)) → wY_check_35 post m (b1 f) (nI d) (nI T) pR cH cP cD vd eK eD eP stt mC oC tk sa sb eq du nx dd dp dl dm pt cd ct st yd yp ya yf hel mT mK mV ou eu ev) := by
  intro e
  induction e with
  | zero =>
    intro d hd f
    have hd : d = 6 := by omega
    subst hd
    refine ⟨if f = true then 2 else 1, 0, -1, -1, fun gK gA gB cl nC c hx m cx cu vd eK eD eP post h1 Z C k => ?_, fun eq du nx hy m ct vd eK eD eP post h1 Z k => ?_⟩
    · obtain ⟨m, rfl⟩ : ∃ m', m = m' + 1 := ⟨m - 1, by omega⟩
      refine br_t (nI_le (a := 6) (b := 6) (by omega) (by decide)) ?_
      have F : ∀ v : Int32, ¬ v = 3 → fc T K A B dd dp dl dm pt cO cA cB cC v 0 (-1) (-1) cx := fun v hv _ _ d hd hn n l D q hq _ => by
        obtain ⟨a, b⟩ := C d hd hn n l D
        exact ⟨gp_le a (by omega), fun w hw => b q hq hq w hw⟩
      cases f with
      | false => exact br_t rfl (k cx cu Z (F 1 (by decide)))
      | true => exact br_f nu_10 (k cx cu Z (F 2 (by decide)))
    · obtain ⟨m, rfl⟩ : ∃ m', m = m' + 1 := ⟨m - 1, by omega⟩
      refine br_t (nI_le (a := 6) (b := 6) (by omega) (by decide)) ?_
      cases f with
      | false => exact br_t rfl (k ct Z)
      | true => exact br_f nu_10 (k ct Z)
  | succ e ih =>
    intro d hd f
    have hd6 : d < 6 := by omega
    have e1 : (nI d).toNatClampNeg = d := nI_clamp (by omega)
    have i1 : vp_in (nI d) 6 := vp_in_nI hd6 (by decide)
    by_cases hn : dd d = 0
    · obtain ⟨v, k, a, p, HX, HY⟩ := ih (d + 1) (by omega) f
      refine ⟨v, k, a, p, fun gK gA gB cl nC c hx m cx cu vd eK eD eP post h1 Z C kk => ?_, fun eq du nx hy m ct vd eK eD eP post h1 Z kk => ?_⟩
      · obtain ⟨m, rfl⟩ : ∃ m', m = m' + 1 := ⟨m - 1, by omega⟩
        refine br_f (nI_ge (b := 6) (by omega) (by decide)) ⟨i1, ?_⟩
        rw [e1]
        refine br_t hn (nm_r (nI_1 d) (HX gK gA gB cl nC c hx m cx cu vd eK eD eP post (by omega) Z (fun d' hd' hn' => ?_) kk))
        by_cases z : d' = d
        · rw [z] at hn'; exact absurd hn hn'
        · exact C d' (by omega) hn'
      · obtain ⟨m, rfl⟩ : ∃ m', m = m' + 1 := ⟨m - 1, by omega⟩
        refine br_f (nI_ge (b := 6) (by omega) (by decide)) ⟨i1, ?_⟩
        rw [e1]
        exact br_t hn (nm_r (nI_1 d) (HY eq du nx hy m ct vd eK eD eP post (by omega) Z kk))
    · obtain ⟨n, l, D⟩ := hD d hd6 hn
      have l24 := D.2.2.2.1
      by_cases hF : ∃ r, r < l ∧ ¬ jer T K A B dd dp pt cO cA cB cC d r (cy T K A B pt cO cA cB cC d n l r) = 0
      · obtain ⟨r0, hr0⟩ := hF
        obtain ⟨r, _, ⟨r1, r2⟩, r3⟩ := tm_least (fun r => r < l ∧ ¬ jer T K A B dd dp pt cO cA cB cC d r (cy T K A B pt cO cA cB cC d n l r) = 0) r0 hr0
        have G : gp T K A B dd dp pt cO cA cB cC d n l r := fun i hi => Classical.byContradiction (fun q => r3 i hi ⟨by omega, q⟩)
        have un : ∀ r', r' < l → gp T K A B dd dp pt cO cA cB cC d n l r' → ¬ jer T K A B dd dp pt cO cA cB cC d r' (cy T K A B pt cO cA cB cC d n l r') = 0 → r' = r := fun r' a1 a2 a3 => by
          rcases Nat.lt_trichotomy r' r with q | q | q
          · exact absurd (G r' q) a3
          · exact q
          · exact absurd (a2 r q) r2
        refine ⟨3, nI (jer T K A B dd dp pt cO cA cB cC d r (cy T K A B pt cO cA cB cC d n l r)), nI d, nI r, fun gK gA gB cl nC c hx m cx cu vd eK eD eP post h1 Z C kk => ?_, fun eq du nx hy m ct vd eK eD eP post h1 Z kk => ?_⟩
        · obtain ⟨m, rfl⟩ : ∃ m', m = m' + 1 := ⟨m - 1, by omega⟩
          refine br_f (nI_ge (b := 6) (by omega) (by decide)) ⟨i1, ?_⟩
          rw [e1]
          refine br_f hn ?_
          refine wx_checkDef hx hd6 D Z (cx0 := cx) (fun _ _ => rfl) (fun cx' cu' r' a1 a2 a3 a4 a5 a6 => ?_) (fun cx' cu' a1 => absurd (a1 r r1) r2) (fun cx' cu' a1 => absurd (a1 r r1) r2)
          have := un r' a1 a2 a3
          subst this
          refine br_t rfl (kk cx' cu' a6 (fc_F hd6 D (ca_ext C a5) (by omega) G (fun q hq hp => ?_)))
          have := (nI_leI (by omega) (by omega)).mp hp
          exact ⟨this, fun v hv => a4 q hq (by omega) v hv⟩
        · obtain ⟨m, rfl⟩ : ∃ m', m = m' + 1 := ⟨m - 1, by omega⟩
          refine br_f (nI_ge (b := 6) (by omega) (by decide)) ⟨i1, ?_⟩
          rw [e1]
          refine br_f hn ⟨l + 1, ?_⟩
          have ef : f = (f || od cO d 0) := by rw [od, Bool.or_false]
          rw [ef]
          refine wy_k52 hy hd6 D hc (fun ct' r' a1 a2 a3 a4 => ?_) (fun ct' a1 => absurd (a1 r r1) r2) (fun ct' a1 => absurd (a1 r r1) r2) (l + 1) 0 ct (by omega) (by omega) (fun i hi => absurd hi (Nat.not_lt_zero i)) Z
          have := un r' a1 a2 a3
          subst this
          exact kk ct' a4
      · have G : gp T K A B dd dp pt cO cA cB cC d n l l := fun i hi => Classical.byContradiction (fun q => hF ⟨i, hi, q⟩)
        by_cases hm : dm d = 0
        · obtain ⟨v, k, a, p, HX, HY⟩ := ih (d + 1) (by omega) (f || od cO d l)
          refine ⟨v, k, a, p, fun gK gA gB cl nC c hx m cx cu vd eK eD eP post h1 Z C kk => ?_, fun eq du nx hy m ct vd eK eD eP post h1 Z kk => ?_⟩
          · obtain ⟨m, rfl⟩ : ∃ m', m = m' + 1 := ⟨m - 1, by omega⟩
            refine br_f (nI_ge (b := 6) (by omega) (by decide)) ⟨i1, ?_⟩
            rw [e1]
            refine br_f hn ?_
            refine wx_checkDef hx hd6 D Z (cx0 := cx) (fun _ _ => rfl) (fun cx' cu' r' a1 a2 a3 => absurd (G r' a1) a3) (fun cx' cu' a1 a2 => absurd hm a2) (fun cx' cu' a1 a2 a3 a4 a5 => ?_)
            refine br_f nu_10 ?_
            have C' : ca T K A B dd dp dl dm pt cO cA cB cC (d + 1) cx' := fun d' hd' hn' n' l' D' => by
              by_cases z : d' = d
              · subst z
                obtain ⟨e1, e2⟩ := df_u D D'
                subst e1 e2
                exact ⟨G, a3⟩
              · exact ca_ext C a4 d' (by omega) hn' n' l' D'
            refine wx_containsOpen hd6 D (fun o => ?_) (fun o => ?_)
            · refine br_f nu_10 (nm_r (nI_1 d) ?_)
              have := HX gK gA gB cl nC c hx m cx' cu' vd eK eD eP post (by omega) a5 C' kk
              rw [(od_ex l).mpr o, Bool.or_true] at this
              exact this
            · refine br_t rfl (nm_r (nI_1 d) ?_)
              have := HX gK gA gB cl nC c hx m cx' cu' vd eK eD eP post (by omega) a5 C' kk
              have ef : od cO d l = false := by
                rcases Bool.eq_false_or_eq_true (od cO d l) with t | t
                · exact absurd ((od_ex l).mp t) o
                · exact t
              rw [ef, Bool.or_false] at this
              exact this
          · obtain ⟨m, rfl⟩ : ∃ m', m = m' + 1 := ⟨m - 1, by omega⟩
            refine br_f (nI_ge (b := 6) (by omega) (by decide)) ⟨i1, ?_⟩
            rw [e1]
            refine br_f hn ⟨l + 1, ?_⟩
            have ef : f = (f || od cO d 0) := by rw [od, Bool.or_false]
            rw [ef]
            refine wy_k52 hy hd6 D hc (fun ct' r' a1 a2 a3 => absurd (G r' a1) a3) (fun ct' a1 a2 => absurd hm a2) (fun ct' a1 a2 a3 => ?_) (l + 1) 0 ct (by omega) (by omega) (fun i hi => absurd hi (Nat.not_lt_zero i)) Z
            exact HY eq du nx hy m ct' vd eK eD eP post (by omega) a3 kk
        · refine ⟨3, 2, nI d, nI l, fun gK gA gB cl nC c hx m cx cu vd eK eD eP post h1 Z C kk => ?_, fun eq du nx hy m ct vd eK eD eP post h1 Z kk => ?_⟩
          · obtain ⟨m, rfl⟩ : ∃ m', m = m' + 1 := ⟨m - 1, by omega⟩
            refine br_f (nI_ge (b := 6) (by omega) (by decide)) ⟨i1, ?_⟩
            rw [e1]
            refine br_f hn ?_
            refine wx_checkDef hx hd6 D Z (cx0 := cx) (fun _ _ => rfl) (fun cx' cu' r' a1 a2 a3 => absurd (G r' a1) a3) (fun cx' cu' a1 a2 a3 a4 a5 => ?_) (fun cx' cu' a1 a2 => absurd a2 hm)
            exact br_t rfl (kk cx' cu' a5 (fc_F hd6 D (ca_ext C a4) (Nat.le_refl _) G (fun q hq hp => ⟨by omega, fun v hv => a3 q hq hq v hv⟩)))
          · obtain ⟨m, rfl⟩ : ∃ m', m = m' + 1 := ⟨m - 1, by omega⟩
            refine br_f (nI_ge (b := 6) (by omega) (by decide)) ⟨i1, ?_⟩
            rw [e1]
            refine br_f hn ⟨l + 1, ?_⟩
            have ef : f = (f || od cO d 0) := by rw [od, Bool.or_false]
            rw [ef]
            exact wy_k52 hy hd6 D hc (fun ct' r' a1 a2 a3 => absurd (G r' a1) a3) (fun ct' a1 a2 a3 => kk ct' a3) (fun ct' a1 a2 => absurd a2 hm) (l + 1) 0 ct (by omega) (by omega) (fun i hi => absurd hi (Nat.not_lt_zero i)) Z
end YCH
end
section
section REL
/-! the relation between the two states -/
def zs (P C Q O : Nat) : Prop := 1 ≤ P ∧ P ≤ 6 ∧ 1 ≤ C ∧ C ≤ 8 ∧ 1 ≤ Q ∧ Q ≤ 4 ∧ O ≤ 32
/-- types -/
def zt (T : Nat) (K A B : Nat → Nat) (tk sa sb cl : Nat → Int32) (stl : Int32) : Prop := ty_W T K A B ∧ tt_A K A B tk sa sb ∧ (stl = 0 → ∃ c, ty_C T K A B c ∧ ∀ j, j < 2 * T → cl j = nI (c j))
/-- definitions -/
def zd (T : Nat) (dd dp dl dm pt cO cA cB cC cd : Nat → Int32) (cD : Int32) : Prop := (∀ j, j < 36 → ∃ t, t < T ∧ pt j = nI t) ∧ (∀ d, d < 6 → ∃ n, n ≤ 6 ∧ dp d = nI n) ∧ DA T dd dp dl dm cO cA cB cC ∧ cdA cd cO cA cB cC ∧ (cD = -1 ∨ ∃ d, d < 6 ∧ cD = nI d ∧ ¬ dd d = 0)
/-- the verdict and the contexts -/
def zv (T : Nat) (K A B : Nat → Nat) (dd dp dl dm pt cO cA cB cC : Nat → Int32) (vd eK eD eP : Int32) (cx cu ct : Nat → Int32) : Prop := fc T K A B dd dp dl dm pt cO cA cB cC vd eK eD eP cx ∧ (∀ v, 6 ≤ v → cu v = 0) ∧ (∀ v, 6 ≤ v → ct v = 0)
/-- the rings hold the queues -/
def rq (E Q : Nat) (L : List MG) (qh qc qk qv : Nat → Int32) : Prop := ∀ e, e < E → ∃ h, h < 4 ∧ qh e = nI h ∧ qc e = nI (ms_q e L).length ∧ (ms_q e L).length ≤ Q ∧ ∀ i m, (ms_q e L)[i]? = some m → qk (e * 4 + (h + i) % 4) = m.2.1 ∧ qv (e * 4 + (h + i) % 4) = m.2.2
/-- a live process stands at an instruction -/
def zl (T : Nat) (dd dp dl dm cO cA cB cC : Nat → Int32) (x y : Int32) : Prop := ∃ d i n l, d < 6 ∧ ¬ dd d = 0 ∧ df T dp dl dm cO cA cB cC d n l ∧ dm d = 0 ∧ x = nI d ∧ y = nI i ∧ i < l
/-- the run: channels -/
def zc (P C Q : Nat) (L : List MG) (pv hel es ew qh qc qk qv mT mK mV : Nat → Int32) : Prop :=
  re_R (2 * C) hel L es ew ∧ ms_A L mT mK mV ∧ rq (2 * C) Q L qh qc qk qv ∧ (∀ i, i < P * 6 → pv i = hel i) ∧ (∀ i, P * 6 ≤ i → i < 36 → hel i = -1)
/-- the run: processes -/
def zp (T P : Nat) (stt : Int32) (dd dp dl dm cO cA cB cC st pd pp pa pf yd yp ya yf hel : Nat → Int32) : Prop :=
  (∀ p, P ≤ p → st p = 0) ∧ (∀ p, p < P → ¬ st p = 0 → pd p = yd p ∧ pp p = yp p ∧ pa p = ya p ∧ pf p = yf p) ∧ (∀ p, p < P → st p = 0 → ∀ v, v < 6 → hel (p * 6 + v) = -1) ∧
  (¬ stt = 0 → (∀ d, d < 6 → ¬ dd d = 0 → dm d = 0) ∧ ∀ p, p < P → st p = 1 → zl T dd dp dl dm cO cA cB cC (pd p) (pp p))
def zr (T P C Q : Nat) (L : List MG) (stt : Int32) (dd dp dl dm cO cA cB cC st pd pp pa pf pv yd yp ya yf hel es ew qh qc qk qv mT mK mV : Nat → Int32) : Prop :=
  zc P C Q L pv hel es ew qh qc qk qv mT mK mV ∧ zp T P stt dd dp dl dm cO cA cB cC st pd pp pa pf yd yp ya yf hel
def i_Rel (k : Nat) (u : SX) (v : SY) : Prop := ∃ (T P C Q O : Nat) (K A B : Nat → Nat) (L : List MG) (stl cD vd eK eD eP stt : Int32) (tk sa sb gK gA gB cl nC dd dp dl dm pt cO cA cB cC cx cu st pd pp pa pf pv es ew qh qc qk qv ou cm eq du nx cd ct yd yp ya yf hel mT mK mV eu ev : Nat → Int32), u = (nI T, nI P, nI C, nI Q, stl, cD, vd, eK, eD, eP, stt, nI O, tk, sa, sb, gK, gA, gB, cl, nC, dd, dp, dl, dm, pt, cO, cA, cB, cC, cx, cu, st, pd, pp, pa, pf, pv, es, ew, qh, qc, qk, qv, ou, cm) ∧ v = (nI T, nI P, nI C, nI Q, cD, vd, eK, eD, eP, stt, nI L.length, nI O, tk, sa, sb, eq, du, nx, dd, dp, dl, dm, pt, cd, ct, st, yd, yp, ya, yf, hel, mT, mK, mV, ou, eu, ev) ∧ zs P C Q O ∧ zt T K A B tk sa sb cl stl ∧ zd T dd dp dl dm pt cO cA cB cC cd cD ∧ zv T K A B dd dp dl dm pt cO cA cB cC vd eK eD eP cx cu ct ∧ zr T P C Q L stt dd dp dl dm cO cA cB cC st pd pp pa pf pv yd yp ya yf hel es ew qh qc qk qv mT mK mV
theorem i_up {k : Nat} {u : SX} {v : SY} (h : i_Rel k u v) : i_Rel (k + 5) u v := h
theorem zz_in {k : Nat} {T P C Q O : Nat} {K A B : Nat → Nat} {L : List MG} {stl cD vd eK eD eP stt : Int32} {tk sa sb gK gA gB cl nC dd dp dl dm pt cO cA cB cC cx cu st pd pp pa pf pv es ew qh qc qk qv ou cm eq du nx cd ct yd yp ya yf hel mT mK mV eu ev : Nat → Int32}
    (h1 : zs P C Q O) (h2 : zt T K A B tk sa sb cl stl) (h3 : zd T dd dp dl dm pt cO cA cB cC cd cD) (h4 : zv T K A B dd dp dl dm pt cO cA cB cC vd eK eD eP cx cu ct) (h5 : zr T P C Q L stt dd dp dl dm cO cA cB cC st pd pp pa pf pv yd yp ya yf hel es ew qh qc qk qv mT mK mV) : i_Rel k (nI T, nI P, nI C, nI Q, stl, cD, vd, eK, eD, eP, stt, nI O, tk, sa, sb, gK, gA, gB, cl, nC, dd, dp, dl, dm, pt, cO, cA, cB, cC, cx, cu, st, pd, pp, pa, pf, pv, es, ew, qh, qc, qk, qv, ou, cm) (nI T, nI P, nI C, nI Q, cD, vd, eK, eD, eP, stt, nI L.length, nI O, tk, sa, sb, eq, du, nx, dd, dp, dl, dm, pt, cd, ct, st, yd, yp, ya, yf, hel, mT, mK, mV, ou, eu, ev) :=
  Exists.intro T (Exists.intro P (Exists.intro C (Exists.intro Q (Exists.intro O (Exists.intro K (Exists.intro A (Exists.intro B (Exists.intro L (Exists.intro stl (Exists.intro cD (Exists.intro vd (Exists.intro eK (Exists.intro eD (Exists.intro eP (Exists.intro stt (Exists.intro tk (Exists.intro sa (Exists.intro sb (Exists.intro gK (Exists.intro gA (Exists.intro gB (Exists.intro cl (Exists.intro nC (Exists.intro dd (Exists.intro dp (Exists.intro dl (Exists.intro dm (Exists.intro pt (Exists.intro cO (Exists.intro cA (Exists.intro cB (Exists.intro cC (Exists.intro cx (Exists.intro cu (Exists.intro st (Exists.intro pd (Exists.intro pp (Exists.intro pa (Exists.intro pf (Exists.intro pv (Exists.intro es (Exists.intro ew (Exists.intro qh (Exists.intro qc (Exists.intro qk (Exists.intro qv (Exists.intro ou (Exists.intro cm (Exists.intro eq (Exists.intro du (Exists.intro nx (Exists.intro cd (Exists.intro ct (Exists.intro yd (Exists.intro yp (Exists.intro ya (Exists.intro yf (Exists.intro hel (Exists.intro mT (Exists.intro mK (Exists.intro mV (Exists.intro eu (Exists.intro ev (And.intro rfl (And.intro rfl (And.intro h1 (And.intro h2 (And.intro h3 (And.intro h4 h5)))))))))))))))))))))))))))))))))))))))))))))))))))))))))))))))))))))
theorem zz_el {k : Nat} {u : SX} {v : SY} {R : SX → SY → Prop} (h : ∀ (T P C Q O : Nat) (K A B : Nat → Nat) (L : List MG) (stl cD vd eK eD eP stt : Int32) (tk sa sb gK gA gB cl nC dd dp dl dm pt cO cA cB cC cx cu st pd pp pa pf pv es ew qh qc qk qv ou cm eq du nx cd ct yd yp ya yf hel mT mK mV eu ev : Nat → Int32), zs P C Q O → zt T K A B tk sa sb cl stl → zd T dd dp dl dm pt cO cA cB cC cd cD → zv T K A B dd dp dl dm pt cO cA cB cC vd eK eD eP cx cu ct → zr T P C Q L stt dd dp dl dm cO cA cB cC st pd pp pa pf pv yd yp ya yf hel es ew qh qc qk qv mT mK mV → R (nI T, nI P, nI C, nI Q, stl, cD, vd, eK, eD, eP, stt, nI O, tk, sa, sb, gK, gA, gB, cl, nC, dd, dp, dl, dm, pt, cO, cA, cB, cC, cx, cu, st, pd, pp, pa, pf, pv, es, ew, qh, qc, qk, qv, ou, cm) (nI T, nI P, nI C, nI Q, cD, vd, eK, eD, eP, stt, nI L.length, nI O, tk, sa, sb, eq, du, nx, dd, dp, dl, dm, pt, cd, ct, st, yd, yp, ya, yf, hel, mT, mK, mV, ou, eu, ev)) (I : i_Rel k u v) : R u v :=
  Exists.elim I (fun T I => Exists.elim I (fun P I => Exists.elim I (fun C I => Exists.elim I (fun Q I => Exists.elim I (fun O I => Exists.elim I (fun K I => Exists.elim I (fun A I => Exists.elim I (fun B I => Exists.elim I (fun L I => Exists.elim I (fun stl I => Exists.elim I (fun cD I => Exists.elim I (fun vd I => Exists.elim I (fun eK I => Exists.elim I (fun eD I => Exists.elim I (fun eP I => Exists.elim I (fun stt I => Exists.elim I (fun tk I => Exists.elim I (fun sa I => Exists.elim I (fun sb I => Exists.elim I (fun gK I => Exists.elim I (fun gA I => Exists.elim I (fun gB I => Exists.elim I (fun cl I => Exists.elim I (fun nC I => Exists.elim I (fun dd I => Exists.elim I (fun dp I => Exists.elim I (fun dl I => Exists.elim I (fun dm I => Exists.elim I (fun pt I => Exists.elim I (fun cO I => Exists.elim I (fun cA I => Exists.elim I (fun cB I => Exists.elim I (fun cC I => Exists.elim I (fun cx I => Exists.elim I (fun cu I => Exists.elim I (fun st I => Exists.elim I (fun pd I => Exists.elim I (fun pp I => Exists.elim I (fun pa I => Exists.elim I (fun pf I => Exists.elim I (fun pv I => Exists.elim I (fun es I => Exists.elim I (fun ew I => Exists.elim I (fun qh I => Exists.elim I (fun qc I => Exists.elim I (fun qk I => Exists.elim I (fun qv I => Exists.elim I (fun ou I => Exists.elim I (fun cm I => Exists.elim I (fun eq I => Exists.elim I (fun du I => Exists.elim I (fun nx I => Exists.elim I (fun cd I => Exists.elim I (fun ct I => Exists.elim I (fun yd I => Exists.elim I (fun yp I => Exists.elim I (fun ya I => Exists.elim I (fun yf I => Exists.elim I (fun hel I => Exists.elim I (fun mT I => Exists.elim I (fun mK I => Exists.elim I (fun mV I => Exists.elim I (fun eu I => Exists.elim I (fun ev I => (congr (congrArg R I.1) I.2.1).mpr (h T P C Q O K A B L stl cD vd eK eD eP stt tk sa sb gK gA gB cl nC dd dp dl dm pt cO cA cB cC cx cu st pd pp pa pf pv es ew qh qc qk qv ou cm eq du nx cd ct yd yp ya yf hel mT mK mV eu ev I.2.2.1 I.2.2.2.1 I.2.2.2.2.1 I.2.2.2.2.2.1 I.2.2.2.2.2.2)))))))))))))))))))))))))))))))))))))))))))))))))))))))))))))))))
end REL
end
section
section EDT
variable {tY pR cH cP stl cD vd eK eD eP stt oC mC : Int32} {tk sa sb gK gA gB cl nC dd dp dl dm pt cO cA cB cC cx cu st pd pp pa pf pv es ew qh qc qk qv ou cm eq du nx cd ct yd yp ya yf hel mT mK mV eu ev : Nat → Int32}
variable {T P C Q O : Nat} {K A B : Nat → Nat} {L : List MG}
/-! Y: the run forgotten; both: edits -/
theorem wy_fr38 {post : SY → Prop} (k : post (tY, pR, cH, cP, cD, vd, eK, eD, eP, stt, mC, oC, tk, sa, sb, eq, du, nx, dd, dp, dl, dm, pt, cd, ct, st, yd, yp, ya, yf, fw hel 0 36 (fun _ => -1), mT, mK, mV, ou, eu, ev)) : ∀ n v, v ≤ 36 → 36 < n + v → wY_forgetRun_38 post tY pR cH cP cD vd eK eD eP stt mC oC n (nI v) tk sa sb eq du nx dd dp dl dm pt cd ct st yd yp ya yf (fw hel 0 v (fun _ => -1)) mT mK mV ou eu ev := by
  intro n
  induction n with
  | zero => intro v h1 h2; omega
  | succ n ih =>
    intro v h1 h2
    by_cases h : v = 36
    · subst h; exact br_t (nI_le (a := 36) (b := 36) (by omega) (by decide)) k
    · refine br_f (nI_ge (b := 36) (by omega) (by decide)) ?_
      rw [show (nI v).toNatClampNeg = 0 + v by rw [nI_clamp (by omega)]; omega]
      exact ⟨vp_in_nI (by omega) (by decide), nm_r (fw_s _ _ _ _ rfl) (nm_r (nI_1 v) (ih (v + 1) (by omega) (by omega)))⟩
theorem wy_fr17 {post : SY → Prop} (k : post (tY, pR, cH, cP, cD, vd, eK, eD, eP, stt, mC, oC, tk, sa, sb, eq, du, nx, dd, dp, dl, dm, pt, cd, ct, fw st 0 6 (fun _ => 0), yd, yp, ya, yf, fw hel 0 36 (fun _ => -1), mT, mK, mV, ou, eu, ev)) : ∀ n v, v ≤ 6 → 6 < n + v → wY_forgetRun_17 post tY pR cH cP cD vd eK eD eP stt mC oC n (nI v) tk sa sb eq du nx dd dp dl dm pt cd ct (fw st 0 v (fun _ => 0)) yd yp ya yf hel mT mK mV ou eu ev := by
  intro n
  induction n with
  | zero => intro v h1 h2; omega
  | succ n ih =>
    intro v h1 h2
    by_cases h : v = 6
    · subst h
      refine br_t (nI_le (a := 6) (b := 6) (by omega) (by decide)) ⟨37, ?_⟩
      rw [← fw_0 hel 0 (fun _ => -1)]
      exact wy_fr38 k 37 0 (by omega) (by omega)
    · refine br_f (nI_ge (b := 6) (by omega) (by decide)) ?_
      rw [show (nI v).toNatClampNeg = 0 + v by rw [nI_clamp (by omega)]; omega]
      exact ⟨vp_in_nI (by omega) (by decide), nm_r (fw_s _ _ _ _ rfl) (nm_r (nI_1 v) (ih (v + 1) (by omega) (by omega)))⟩
theorem wy_forgetRun {post : SY → Prop} (k : post (tY, pR, cH, cP, cD, vd, eK, eD, eP, 0, 0, 0, tk, sa, sb, eq, du, nx, dd, dp, dl, dm, pt, cd, ct, fw st 0 6 (fun _ => 0), yd, yp, ya, yf, fw hel 0 36 (fun _ => -1), mT, mK, mV, ou, eu, ev)) : wpY_forgetRun post (tY, pR, cH, cP, cD, vd, eK, eD, eP, stt, mC, oC, tk, sa, sb, eq, du, nx, dd, dp, dl, dm, pt, cd, ct, st, yd, yp, ya, yf, hel, mT, mK, mV, ou, eu, ev) := by
  refine ⟨7, ?_⟩
  rw [← fw_0 st 0 (fun _ => 0)]
  exact wy_fr17 k 7 0 (by omega) (by omega)
theorem wy_edited {post : Int32 → SY → Prop} (k : post 0 (tY, pR, cH, cP, cD, 0, 0, -1, -1, 0, 0, 0, tk, sa, sb, eq, du, nx, dd, dp, dl, dm, pt, cd, ct, fw st 0 6 (fun _ => 0), yd, yp, ya, yf, fw hel 0 36 (fun _ => -1), mT, mK, mV, ou, eu, ev)) : wpY_edited post (tY, pR, cH, cP, cD, vd, eK, eD, eP, stt, mC, oC, tk, sa, sb, eq, du, nx, dd, dp, dl, dm, pt, cd, ct, st, yd, yp, ya, yf, hel, mT, mK, mV, ou, eu, ev) := by
  unfold wpY_edited wpY_judged
  dsimp only
  exact wy_forgetRun k
/-- a run forgotten on both sides -/
theorem zz_clr (hS : zs P C Q O) (hst : ∀ p, P ≤ p → st p = 0) : zr T P C Q [] 0 dd dp dl dm cO cA cB cC (fun _ => 0) (fw pd 0 P (fun _ => 0)) (fw pp 0 P (fun _ => 0)) (fw pa 0 P (fun _ => 0)) (fw pf 0 P (fun _ => 0)) (fw pv 0 (P * 6) (fun _ => -1)) yd yp ya yf (fw hel 0 36 (fun _ => -1)) (fw es 0 (2 * C) (fun _ => 0)) (fw ew 0 (2 * C) (fun _ => -1)) (fw qh 0 (2 * C) (fun _ => 0)) (fw qc 0 (2 * C) (fun _ => 0)) qk qv mT mK mV := by
  obtain ⟨s1, s2, s3, s4, s5, s6, s7⟩ := hS
  have at0 : ∀ (a f : Nat → Int32) (n i : Nat), i < n → fw a 0 n f i = f i := fun a f n i h => by
    have := fw_at (a := a) (lo := 0) (n := n) (f := f) h
    rw [Nat.zero_add] at this
    exact this
  refine ⟨⟨re_init (by omega) (by omega) (fun i hi => at0 _ _ _ _ hi) (fun e he => ⟨at0 _ _ _ _ he, at0 _ _ _ _ he⟩), fun j m h => ?_, fun e he => ⟨0, by omega, at0 _ _ _ _ he, at0 _ _ _ _ he, Nat.zero_le _, fun i m h => ?_⟩, fun i hi => ?_, fun i h1 h2 => at0 _ _ _ _ h2⟩, fun p _ => rfl, fun p _ h => absurd rfl h, fun p hp _ v hv => at0 _ _ _ _ (by omega), fun h => absurd rfl h⟩
  · cases h
  · cases h
  · rw [at0 _ _ _ _ hi, at0 _ _ _ _ (by omega)]
theorem fc_0 {k e p : Int32} {cx : Nat → Int32} : fc T K A B dd dp dl dm pt cO cA cB cC 0 k e p cx := fun h => absurd rfl h
/-- both edited: related again -/
theorem zz_ed {k : Nat} (hS : zs P C Q O) (hT : zt T K A B tk sa sb cl stl) (hD : zd T dd dp dl dm pt cO cA cB cC cd cD) (hcu : ∀ v, 6 ≤ v → cu v = 0) (hct : ∀ v, 6 ≤ v → ct v = 0) (hst : ∀ p, P ≤ p → st p = 0) :
    i_Rel k (nI T, nI P, nI C, nI Q, stl, cD, 0, 0, -1, -1, 0, 0, tk, sa, sb, gK, gA, gB, cl, nC, dd, dp, dl, dm, pt, cO, cA, cB, cC, cx, cu, fw st 0 P (fun _ => 0), fw pd 0 P (fun _ => 0), fw pp 0 P (fun _ => 0), fw pa 0 P (fun _ => 0), fw pf 0 P (fun _ => 0), fw pv 0 (P * 6) (fun _ => -1), fw es 0 (2 * C) (fun _ => 0), fw ew 0 (2 * C) (fun _ => -1), fw qh 0 (2 * C) (fun _ => 0), fw qc 0 (2 * C) (fun _ => 0), qk, qv, ou, cm)
      (nI T, nI P, nI C, nI Q, cD, 0, 0, -1, -1, 0, 0, 0, tk, sa, sb, eq, du, nx, dd, dp, dl, dm, pt, cd, ct, fw st 0 6 (fun _ => 0), yd, yp, ya, yf, fw hel 0 36 (fun _ => -1), mT, mK, mV, ou, eu, ev) := by
  rw [fw_c0 hst, fw_c0 (fun p hp => hst p (by have := hS.2.1; omega))]
  exact zz_in (O := 0) (L := []) ⟨hS.1, hS.2.1, hS.2.2.1, hS.2.2.2.1, hS.2.2.2.2.1, hS.2.2.2.2.2.1, by omega⟩ hT hD ⟨fc_0, hcu, hct⟩ (zz_clr hS hst)
end EDT
/-- a clamped number -/
theorem zz_clamp (x : Int32) (a b : Nat) (h : a ≤ b) (hb : b < 2 ^ 31) : ∃ n, a ≤ n ∧ n ≤ b ∧ (if nI a ≤ x then (if x ≤ nI b then x else nI b) else nI a) = nI n := by
  by_cases h1 : nI a ≤ x
  · rw [if_pos h1]
    by_cases h2 : x ≤ nI b
    · rw [if_pos h2]
      have h0 : ¬ x < 0 := fun q => absurd (Int32.lt_of_le_of_lt h1 q) (nI_pos (by omega))
      obtain ⟨j, hj, rfl⟩ := nI_of h0
      exact ⟨j, (nI_leI (by omega) hj).mp h1, (nI_leI hj hb).mp h2, rfl⟩
    · rw [if_neg h2]; exact ⟨b, h, Nat.le_refl _, rfl⟩
  · rw [if_neg h1]; exact ⟨a, Nat.le_refl _, h, rfl⟩
theorem zz_T0 {T : Nat} (h : 2 ≤ T) (h2 : T ≤ 16) : zt T (fun _ => 0) (fun _ => 0) (fun _ => 0) (fun _ => 0) (fun _ => 0) (fun _ => 0) (fun _ => 0) 1 :=
  ⟨⟨h, h2, fun i _ => ⟨Nat.zero_le _, (by omega : 0 < T), (by omega : 0 < T), fun _ => rfl, fun _ => rfl⟩⟩, fun i _ => ⟨rfl, rfl, rfl⟩, fun z => absurd z nu_10⟩
theorem zz_D0 {T : Nat} (h : 2 ≤ T) : zd T (fun _ => 0) (fun _ => 0) (fun _ => 0) (fun _ => 0) (fun _ => 0) (fun _ => 0) (fun _ => 0) (fun _ => 0) (fun _ => 0) (fun _ => 0) (-1) :=
  ⟨fun j _ => ⟨0, by omega, rfl⟩, fun d _ => ⟨0, by omega, rfl⟩, fun d _ z => absurd rfl z, fun j _ => ⟨rfl, rfl, rfl, rfl⟩, Or.inl rfl⟩
theorem i_vc0 (k0 : Int32) (k1 : Int32) (k2 : Int32) (k3 : Int32) : wpX_init (fun u => wpY_init (fun v => i_Rel 4 u v) k0 k1 k2 k3) k0 k1 k2 k3 := by
  obtain ⟨T, T1, T2, eT⟩ := zz_clamp k0 2 16 (by omega) (by omega)
  obtain ⟨P, P1, P2, eP⟩ := zz_clamp k1 1 6 (by omega) (by omega)
  obtain ⟨C, C1, C2, eC⟩ := zz_clamp k2 1 8 (by omega) (by omega)
  obtain ⟨Q, Q1, Q2, eQ⟩ := zz_clamp k3 1 4 (by omega) (by omega)
  have eT : (if (2 : Int32) ≤ k0 then (if k0 ≤ 16 then k0 else 16) else 2) = nI T := eT
  have eP : (if (1 : Int32) ≤ k1 then (if k1 ≤ 6 then k1 else 6) else 1) = nI P := eP
  have eC : (if (1 : Int32) ≤ k2 then (if k2 ≤ 8 then k2 else 8) else 1) = nI C := eC
  have eQ : (if (1 : Int32) ≤ k3 then (if k3 ≤ 4 then k3 else 4) else 1) = nI Q := eQ
  unfold wpX_init
  refine wx_clamp ?_
  refine wx_clamp ?_
  refine wx_clamp ?_
  refine wx_clamp ?_
  rw [eT, eP, eC, eQ]
  refine wx_edited P2 C2 ?_
  unfold wpY_init
  refine wy_clamp ?_
  refine wy_clamp ?_
  refine wy_clamp ?_
  refine wy_clamp ?_
  rw [eT, eP, eC, eQ]
  refine wy_forgetRun ?_
  have hS : zs P C Q 0 := ⟨P1, P2, C1, C2, Q1, Q2, by omega⟩
  exact zz_ed hS (zz_T0 T1 T2) (zz_D0 T1) (fun _ _ => rfl) (fun _ _ => rfl) (fun _ _ => rfl)
end
section
section SIM
/-! methods that only read, or edit the types -/
theorem zz_T {T : Nat} {K A B : Nat → Nat} {tk sa sb cl : Nat → Int32} {stl : Int32} (hT : zt T K A B tk sa sb cl stl) {i kd a b : Nat} {x y : Int32} (hi : i < T) (hk : kd < 7) (hx : kd = 0 → x = 0) (ha : ¬ kd = 0 → x = nI a ∧ a < T) (hy : kd < 3 → y = 0) (hb : ¬ kd < 3 → y = nI b ∧ b < T) :
    zt T (fun j => if j = i then kd else K j) (fun j => if j = i then (if kd = 0 then 0 else a) else A j) (fun j => if j = i then (if kd < 3 then 0 else b) else B j) (upd tk i (nI kd)) (upd sa i x) (upd sb i y) cl 1 := by
  obtain ⟨⟨w1, w2, w3⟩, t1, t2⟩ := hT
  have xe : x = nI (if kd = 0 then 0 else a) := by
    by_cases z : kd = 0
    · rw [if_pos z]; exact hx z
    · rw [if_neg z]; exact (ha z).1
  have ye : y = nI (if kd < 3 then 0 else b) := by
    by_cases z : kd < 3
    · rw [if_pos z]; exact hy z
    · rw [if_neg z]; exact (hb z).1
  refine ⟨⟨w1, w2, fun j hj => ?_⟩, fun j hj => ?_, fun z => absurd z nu_10⟩
  · by_cases e : j = i
    · simp only [e, if_true]
      refine ⟨by omega, ?_, ?_, fun z => if_pos z, fun z => if_pos z⟩
      · by_cases z : kd = 0
        · rw [if_pos z]; omega
        · rw [if_neg z]; exact (ha z).2
      · by_cases z : kd < 3
        · rw [if_pos z]; omega
        · rw [if_neg z]; exact (hb z).2
    · simp only [e, if_false]
      exact w3 j hj
  · by_cases e : j = i
    · subst e
      rw [pk_us, pk_us, pk_us]
      dsimp only
      rw [if_pos rfl, if_pos rfl, if_pos rfl]
      exact ⟨rfl, xe, ye⟩
    · rw [pk_un e, pk_un e, pk_un e]
      dsimp only
      rw [if_neg e, if_neg e, if_neg e]
      exact t1 j hj
theorem i_vc_setType {k : Nat} {u : SX} {v : SY} (I : i_Rel k u v) (hk : k + 5 ≤ 2564) (v1 : Int32) (v2 : Int32) (v3 : Int32) (v4 : Int32) : wpX_setType (fun r u' => wpY_setType (fun r' v' => r' = r ∧ i_Rel (k + 5) u' v') v v1 v2 v3 v4) u v1 v2 v3 v4 := by
  refine zz_el (R := fun u v => wpX_setType (fun r u' => wpY_setType (fun r' v' => r' = r ∧ i_Rel (k + 5) u' v') v v1 v2 v3 v4) u v1 v2 v3 v4) ?_ I
  intro T P C Q O K A B L stl cD vd eK eD eP stt tk sa sb gK gA gB cl nC dd dp dl dm pt cO cA cB cC cx cu st pd pp pa pf pv es ew qh qc qk qv ou cm eq du nx cd ct yd yp ya yf hel mT mK mV eu ev hS hT hD hV hR
  have J : i_Rel (k + 5) (nI T, nI P, nI C, nI Q, stl, cD, vd, eK, eD, eP, stt, nI O, tk, sa, sb, gK, gA, gB, cl, nC, dd, dp, dl, dm, pt, cO, cA, cB, cC, cx, cu, st, pd, pp, pa, pf, pv, es, ew, qh, qc, qk, qv, ou, cm) (nI T, nI P, nI C, nI Q, cD, vd, eK, eD, eP, stt, nI L.length, nI O, tk, sa, sb, eq, du, nx, dd, dp, dl, dm, pt, cd, ct, st, yd, yp, ya, yf, hel, mT, mK, mV, ou, eu, ev) := zz_in hS hT hD hV hR
  have T2 := hT.1.2.1
  have T1 := hT.1.1
  unfold wpX_setType
  dsimp only
  rcases nu_cs v1 T (by omega) with ⟨i, i1, rfl⟩ | n1
  · rcases nu_cs v2 7 (by omega) with ⟨kd, k1, rfl⟩ | n2
    · have i16 : vp_in (nI i) 16 := vp_in_nI (by omega) (by decide)
      have ei : (nI i).toNatClampNeg = i := nI_clamp (by omega)
      have fin : ∀ (x y : Int32) (a b : Nat), (kd = 0 → x = 0) → (¬ kd = 0 → x = nI a ∧ a < T) → (kd < 3 → y = 0) → (¬ kd < 3 → y = nI b ∧ b < T) →
          i_Rel (k + 5) (nI T, nI P, nI C, nI Q, 1, cD, 0, 0, -1, -1, 0, 0, upd tk i (nI kd), upd sa i x, upd sb i y, gK, gA, gB, cl, nC, dd, dp, dl, dm, pt, cO, cA, cB, cC, cx, cu, fw st 0 P (fun _ => 0), fw pd 0 P (fun _ => 0), fw pp 0 P (fun _ => 0), fw pa 0 P (fun _ => 0), fw pf 0 P (fun _ => 0), fw pv 0 (P * 6) (fun _ => -1), fw es 0 (2 * C) (fun _ => 0), fw ew 0 (2 * C) (fun _ => -1), fw qh 0 (2 * C) (fun _ => 0), fw qc 0 (2 * C) (fun _ => 0), qk, qv, ou, cm)
            (nI T, nI P, nI C, nI Q, cD, 0, 0, -1, -1, 0, 0, 0, upd tk i (nI kd), upd sa i x, upd sb i y, eq, du, nx, dd, dp, dl, dm, pt, cd, ct, fw st 0 6 (fun _ => 0), yd, yp, ya, yf, fw hel 0 36 (fun _ => -1), mT, mK, mV, ou, eu, ev) :=
        fun x y a b h1 h2 h3 h4 => zz_ed hS (zz_T hT i1 k1 h1 h2 h3 h4) hD hV.2.1 hV.2.2 hR.2.1
      refine wx_in1 i1 ?_
      refine br_f nu_10 ?_
      refine wx_in1 (N := 7) k1 ?_
      refine br_f nu_10 ?_
      -- the tails of X and of Y once the operands are good
      have xt : ∀ (post : Int32 → SX → Prop) (r1 r2 x y : Int32), (r1 = 0 → x = 0) → (¬ r1 = 0 → x = v3) → (r2 = 0 → y = 0) → (¬ r2 = 0 → y = v4) → post 0 (nI T, nI P, nI C, nI Q, 1, cD, 0, 0, -1, -1, 0, 0, upd tk i (nI kd), upd sa i x, upd sb i y, gK, gA, gB, cl, nC, dd, dp, dl, dm, pt, cO, cA, cB, cC, cx, cu, fw st 0 P (fun _ => 0), fw pd 0 P (fun _ => 0), fw pp 0 P (fun _ => 0), fw pa 0 P (fun _ => 0), fw pf 0 P (fun _ => 0), fw pv 0 (P * 6) (fun _ => -1), fw es 0 (2 * C) (fun _ => 0), fw ew 0 (2 * C) (fun _ => -1), fw qh 0 (2 * C) (fun _ => 0), fw qc 0 (2 * C) (fun _ => 0), qk, qv, ou, cm) →
          wX_setType_87 post (nI i) (nI kd) v3 v4 r1 r2 (nI T) (nI P) (nI C) (nI Q) stl cD vd eK eD eP stt (nI O) tk sa sb gK gA gB cl nC dd dp dl dm pt cO cA cB cC cx cu st pd pp pa pf pv es ew qh qc qk qv ou cm := fun post r1 r2 x y q1 q2 q3 q4 kk => by
        unfold wX_setType_87
        rw [ei]
        have t126 : wX_setType_126 post y (nI i) (nI T) (nI P) (nI C) (nI Q) stl cD vd eK eD eP stt (nI O) (upd tk i (nI kd)) (upd sa i x) sb gK gA gB cl nC dd dp dl dm pt cO cA cB cC cx cu st pd pp pa pf pv es ew qh qc qk qv ou cm := by
          unfold wX_setType_126
          rw [ei]
          exact ⟨i16, nm_e (wx_edited hS.2.1 hS.2.2.2.1 kk)⟩
        have t109 : wX_setType_109 post (nI i) v4 r2 x (nI i) (nI T) (nI P) (nI C) (nI Q) stl cD vd eK eD eP stt (nI O) (upd tk i (nI kd)) sa sb gK gA gB cl nC dd dp dl dm pt cO cA cB cC cx cu st pd pp pa pf pv es ew qh qc qk qv ou cm := by
          unfold wX_setType_109
          rw [ei]
          refine ⟨i16, nm_e (br_c (fun z => ?_) (fun z => ?_))⟩
          · rw [q3 z] at t126; exact t126
          · rw [q4 z] at t126; exact t126
        refine ⟨i16, nm_e (br_c (fun z => ?_) (fun z => ?_))⟩
        · rw [q1 z] at t109; exact t109
        · rw [q2 z] at t109; exact t109
      have yt : ∀ (post : Int32 → SY → Prop) (x y : Int32), (kd = 0 → x = 0) → (¬ kd = 0 → x = v3) → (kd < 3 → y = 0) → (¬ kd < 3 → y = v4) → post 0 (nI T, nI P, nI C, nI Q, cD, 0, 0, -1, -1, 0, 0, 0, upd tk i (nI kd), upd sa i x, upd sb i y, eq, du, nx, dd, dp, dl, dm, pt, cd, ct, fw st 0 6 (fun _ => 0), yd, yp, ya, yf, fw hel 0 36 (fun _ => -1), mT, mK, mV, ou, eu, ev) →
          wY_setType_62 post (nI i) (nI kd) v3 v4 (nI T) (nI P) (nI C) (nI Q) cD vd eK eD eP stt (nI L.length) (nI O) tk sa sb eq du nx dd dp dl dm pt cd ct st yd yp ya yf hel mT mK mV ou eu ev := fun post x y q1 q2 q3 q4 kk => by
        unfold wY_setType_62
        rw [ei]
        have t100 : wY_setType_100 post y (nI i) (nI T) (nI P) (nI C) (nI Q) cD vd eK eD eP stt (nI L.length) (nI O) (upd tk i (nI kd)) (upd sa i x) sb eq du nx dd dp dl dm pt cd ct st yd yp ya yf hel mT mK mV ou eu ev := by
          unfold wY_setType_100
          rw [ei]
          exact ⟨i16, nm_e (wy_edited kk)⟩
        have t83 : wY_setType_83 post (nI i) (nI kd) v4 x (nI i) (nI T) (nI P) (nI C) (nI Q) cD vd eK eD eP stt (nI L.length) (nI O) (upd tk i (nI kd)) sa sb eq du nx dd dp dl dm pt cd ct st yd yp ya yf hel mT mK mV ou eu ev := by
          unfold wY_setType_83
          rw [ei]
          refine ⟨i16, nm_e (pk_lt kd 3 (fun z => ?_) (fun z => ?_))⟩
          · rw [q3 z] at t100; exact t100
          · rw [q4 (by omega)] at t100; exact t100
        refine ⟨i16, nm_e (pk_eq kd 0 (fun z => ?_) (fun z => ?_))⟩
        · rw [q1 z] at t83; exact t83
        · rw [q2 z] at t83; exact t83
      -- Y's way to its tail or to -1
      have yy : ∀ post : Int32 → SY → Prop, ((¬ kd = 0 ∧ (v3 < 0 ∨ nI T ≤ v3)) ∨ (¬ kd < 3 ∧ (v4 < 0 ∨ nI T ≤ v4)) → post (-1) (nI T, nI P, nI C, nI Q, cD, vd, eK, eD, eP, stt, nI L.length, nI O, tk, sa, sb, eq, du, nx, dd, dp, dl, dm, pt, cd, ct, st, yd, yp, ya, yf, hel, mT, mK, mV, ou, eu, ev)) → ((¬ kd = 0 → ∃ a, a < T ∧ v3 = nI a) → (¬ kd < 3 → ∃ b, b < T ∧ v4 = nI b) → wY_setType_62 post (nI i) (nI kd) v3 v4 (nI T) (nI P) (nI C) (nI Q) cD vd eK eD eP stt (nI L.length) (nI O) tk sa sb eq du nx dd dp dl dm pt cd ct st yd yp ya yf hel mT mK mV ou eu ev) → wpY_setType post (nI T, nI P, nI C, nI Q, cD, vd, eK, eD, eP, stt, nI L.length, nI O, tk, sa, sb, eq, du, nx, dd, dp, dl, dm, pt, cd, ct, st, yd, yp, ya, yf, hel, mT, mK, mV, ou, eu, ev) (nI i) (nI kd) v3 v4 := fun post kn ky => by
        unfold wpY_setType
        dsimp only
        refine wy_in1 i1 ?_
        refine (br_f nu_10 (br_f (nI_pos (by omega)) (br_t (nI_le (b := 6) (by omega) (by omega)) ?_)))
        have t42 : (¬ kd = 0 → ∃ a, a < T ∧ v3 = nI a) → wY_setType_42 post (nI i) (nI kd) v3 v4 (nI T) (nI P) (nI C) (nI Q) cD vd eK eD eP stt (nI L.length) (nI O) tk sa sb eq du nx dd dp dl dm pt cd ct st yd yp ya yf hel mT mK mV ou eu ev := fun q => by
          unfold wY_setType_42
          refine pk_lt kd 3 (fun z => ky q (fun p => absurd z p)) (fun z => ?_)
          rcases nu_cs v4 T (by omega) with ⟨b, b1, rfl⟩ | n4
          · refine wy_in1 b1 ?_
            exact br_f nu_10 (ky q (fun _ => ⟨b, b1, rfl⟩))
          · refine wy_in0 n4 ?_
            exact br_t rfl (kn (Or.inr ⟨by omega, n4⟩))
        refine pk_eq kd 0 (fun z => t42 (fun p => absurd z p)) (fun z => ?_)
        rcases nu_cs v3 T (by omega) with ⟨a, a1, rfl⟩ | n3
        · refine wy_in1 a1 ?_
          exact br_f nu_10 (t42 (fun _ => ⟨a, a1, rfl⟩))
        · refine wy_in0 n3 ?_
          exact br_t rfl (kn (Or.inl ⟨z, n3⟩))
      -- X and Y together
      have both : ∀ r1 r2 : Int32, (r1 = 0 ↔ kd = 0) → (r2 = 0 ↔ kd < 3) → (¬ kd = 0 → ∃ a, a < T ∧ v3 = nI a) → (¬ kd < 3 → ∃ b, b < T ∧ v4 = nI b) →
          wX_setType_87 (fun r u' => wpY_setType (fun r' v' => r' = r ∧ i_Rel (k + 5) u' v') (nI T, nI P, nI C, nI Q, cD, vd, eK, eD, eP, stt, nI L.length, nI O, tk, sa, sb, eq, du, nx, dd, dp, dl, dm, pt, cd, ct, st, yd, yp, ya, yf, hel, mT, mK, mV, ou, eu, ev) (nI i) (nI kd) v3 v4) (nI i) (nI kd) v3 v4 r1 r2 (nI T) (nI P) (nI C) (nI Q) stl cD vd eK eD eP stt (nI O) tk sa sb gK gA gB cl nC dd dp dl dm pt cO cA cB cC cx cu st pd pp pa pf pv es ew qh qc qk qv ou cm := fun r1 r2 q1 q2 q3 q4 => by
        have n3 : ∃ a : Nat, ¬ kd = 0 → v3 = nI a ∧ a < T := by
          by_cases z : kd = 0
          · exact ⟨0, fun p => absurd z p⟩
          · obtain ⟨a, a1, a2⟩ := q3 z; exact ⟨a, fun _ => ⟨a2, a1⟩⟩
        have n4 : ∃ b : Nat, ¬ kd < 3 → v4 = nI b ∧ b < T := by
          by_cases z : kd < 3
          · exact ⟨0, fun p => absurd z p⟩
          · obtain ⟨b, b1, b2⟩ := q4 z; exact ⟨b, fun _ => ⟨b2, b1⟩⟩
        obtain ⟨a, ha⟩ := n3
        obtain ⟨b, hb⟩ := n4
        refine xt _ r1 r2 (if kd = 0 then 0 else v3) (if kd < 3 then 0 else v4) (fun z => if_pos (q1.mp z)) (fun z => if_neg (fun p => z (q1.mpr p))) (fun z => if_pos (q2.mp z)) (fun z => if_neg (fun p => z (q2.mpr p))) ?_
        refine yy _ (fun q => ?_) (fun _ _ => yt _ (if kd = 0 then 0 else v3) (if kd < 3 then 0 else v4) (fun z => if_pos z) (fun z => if_neg z) (fun z => if_pos z) (fun z => if_neg z) ⟨rfl, fin _ _ a b (fun z => if_pos z) (fun z => by rw [if_neg z]; exact ha z) (fun z => if_pos z) (fun z => by rw [if_neg z]; exact hb z)⟩)
        rcases q with ⟨p1, p2⟩ | ⟨p1, p2⟩
        · obtain ⟨e1, e2⟩ := ha p1
          rw [e1] at p2
          rcases p2 with p | p
          · exact absurd p (nI_pos (by omega))
          · exact absurd p (nI_ge e2 (by omega))
        · obtain ⟨e1, e2⟩ := hb p1
          rw [e1] at p2
          rcases p2 with p | p
          · exact absurd p (nI_pos (by omega))
          · exact absurd p (nI_ge e2 (by omega))
      have no : ((¬ kd = 0 ∧ (v3 < 0 ∨ nI T ≤ v3)) ∨ (¬ kd < 3 ∧ (v4 < 0 ∨ nI T ≤ v4))) → wpY_setType (fun r' v' => r' = -1 ∧ i_Rel (k + 5) (nI T, nI P, nI C, nI Q, stl, cD, vd, eK, eD, eP, stt, nI O, tk, sa, sb, gK, gA, gB, cl, nC, dd, dp, dl, dm, pt, cO, cA, cB, cC, cx, cu, st, pd, pp, pa, pf, pv, es, ew, qh, qc, qk, qv, ou, cm) v') (nI T, nI P, nI C, nI Q, cD, vd, eK, eD, eP, stt, nI L.length, nI O, tk, sa, sb, eq, du, nx, dd, dp, dl, dm, pt, cd, ct, st, yd, yp, ya, yf, hel, mT, mK, mV, ou, eu, ev) (nI i) (nI kd) v3 v4 := fun q =>
        yy _ (fun _ => ⟨rfl, J⟩) (fun p1 p2 => by
          rcases q with ⟨q1, q2⟩ | ⟨q1, q2⟩
          · obtain ⟨a, a1, a2⟩ := p1 q1
            rw [a2] at q2
            rcases q2 with p | p
            · exact absurd p (nI_pos (by omega))
            · exact absurd p (nI_ge a1 (by omega))
          · obtain ⟨a, a1, a2⟩ := p2 q1
            rw [a2] at q2
            rcases q2 with p | p
            · exact absurd p (nI_pos (by omega))
            · exact absurd p (nI_ge a1 (by omega)))
      have x64 : ∀ r1 r2 : Int32, (r1 = 0 ↔ kd = 0) → (r2 = 0 ↔ kd < 3) → (¬ kd = 0 → ∃ a, a < T ∧ v3 = nI a) → wX_setType_64 (fun r u' => wpY_setType (fun r' v' => r' = r ∧ i_Rel (k + 5) u' v') (nI T, nI P, nI C, nI Q, cD, vd, eK, eD, eP, stt, nI L.length, nI O, tk, sa, sb, eq, du, nx, dd, dp, dl, dm, pt, cd, ct, st, yd, yp, ya, yf, hel, mT, mK, mV, ou, eu, ev) (nI i) (nI kd) v3 v4) (nI i) (nI kd) v3 v4 r1 r2 (nI T) (nI P) (nI C) (nI Q) stl cD vd eK eD eP stt (nI O) tk sa sb gK gA gB cl nC dd dp dl dm pt cO cA cB cC cx cu st pd pp pa pf pv es ew qh qc qk qv ou cm := fun r1 r2 q1 q2 q3 => by
        unfold wX_setType_64
        refine br_c (fun z => both r1 r2 q1 q2 q3 (fun p => absurd (q2.mp z) p)) (fun z => ?_)
        rcases nu_cs v4 T (by omega) with ⟨b, b1, b2⟩ | n4
        · rw [b2]
          rw [b2] at both
          refine wx_in1 b1 ?_
          exact br_f nu_10 (both r1 r2 q1 q2 q3 (fun _ => ⟨b, b1, rfl⟩))
        · refine wx_in0 n4 ?_
          exact br_t rfl (no (Or.inr ⟨fun p => z (q2.mpr p), n4⟩))
      have uA : ∀ (post : Int32 → Prop), (kd = 0 → post 0) → (¬ kd = 0 → post 1) → wpX_kindUsesA post (nI T, nI P, nI C, nI Q, stl, cD, vd, eK, eD, eP, stt, nI O, tk, sa, sb, gK, gA, gB, cl, nC, dd, dp, dl, dm, pt, cO, cA, cB, cC, cx, cu, st, pd, pp, pa, pf, pv, es, ew, qh, qc, qk, qv, ou, cm) (nI kd) := fun post h0 h1 => pk_eq kd 0 h0 h1
      have uB : ∀ (post : Int32 → Prop), (kd < 3 → post 0) → (¬ kd < 3 → post 1) → wpX_kindUsesB post (nI T, nI P, nI C, nI Q, stl, cD, vd, eK, eD, eP, stt, nI O, tk, sa, sb, gK, gA, gB, cl, nC, dd, dp, dl, dm, pt, cO, cA, cB, cC, cx, cu, st, pd, pp, pa, pf, pv, es, ew, qh, qc, qk, qv, ou, cm) (nI kd) := fun post h0 h1 => pk_lt kd 3 h0 (fun z => h1 (by omega))
      refine uA _ (fun z => ?_) (fun z => ?_)
      · refine uB _ (fun y => ?_) (fun y => absurd y (by omega))
        exact br_t rfl (x64 0 0 ⟨fun _ => z, fun _ => rfl⟩ ⟨fun _ => y, fun _ => rfl⟩ (fun p => absurd z p))
      · have hgA : ∀ r2 : Int32, (r2 = 0 ↔ kd < 3) → (∀ a, a < T → v3 = nI a → wX_setType_64 (fun r u' => wpY_setType (fun r' v' => r' = r ∧ i_Rel (k + 5) u' v') (nI T, nI P, nI C, nI Q, cD, vd, eK, eD, eP, stt, nI L.length, nI O, tk, sa, sb, eq, du, nx, dd, dp, dl, dm, pt, cd, ct, st, yd, yp, ya, yf, hel, mT, mK, mV, ou, eu, ev) (nI i) (nI kd) v3 v4) (nI i) (nI kd) v3 v4 1 r2 (nI T) (nI P) (nI C) (nI Q) stl cD vd eK eD eP stt (nI O) tk sa sb gK gA gB cl nC dd dp dl dm pt cO cA cB cC cx cu st pd pp pa pf pv es ew qh qc qk qv ou cm) := fun r2 q2 a a1 a2 =>
          x64 1 r2 ⟨fun p => absurd p nu_10, fun p => absurd p z⟩ q2 (fun _ => ⟨a, a1, a2⟩)
        have g2 : ∀ r2 : Int32, (r2 = 0 ↔ kd < 3) → wpX_inside (fun r => ((r = 0 → (wpY_setType (fun r' v' => r' = -1 ∧ i_Rel (k + 5) (nI T, nI P, nI C, nI Q, stl, cD, vd, eK, eD, eP, stt, nI O, tk, sa, sb, gK, gA, gB, cl, nC, dd, dp, dl, dm, pt, cO, cA, cB, cC, cx, cu, st, pd, pp, pa, pf, pv, es, ew, qh, qc, qk, qv, ou, cm) v') (nI T, nI P, nI C, nI Q, cD, vd, eK, eD, eP, stt, nI L.length, nI O, tk, sa, sb, eq, du, nx, dd, dp, dl, dm, pt, cd, ct, st, yd, yp, ya, yf, hel, mT, mK, mV, ou, eu, ev) (nI i) (nI kd) v3 v4)) ∧ (¬ r = 0 → (wX_setType_64 (fun r u' => wpY_setType (fun r' v' => r' = r ∧ i_Rel (k + 5) u' v') (nI T, nI P, nI C, nI Q, cD, vd, eK, eD, eP, stt, nI L.length, nI O, tk, sa, sb, eq, du, nx, dd, dp, dl, dm, pt, cd, ct, st, yd, yp, ya, yf, hel, mT, mK, mV, ou, eu, ev) (nI i) (nI kd) v3 v4) (nI i) (nI kd) v3 v4 1 r2 (nI T) (nI P) (nI C) (nI Q) stl cD vd eK eD eP stt (nI O) tk sa sb gK gA gB cl nC dd dp dl dm pt cO cA cB cC cx cu st pd pp pa pf pv es ew qh qc qk qv ou cm)))) (nI T, nI P, nI C, nI Q, stl, cD, vd, eK, eD, eP, stt, nI O, tk, sa, sb, gK, gA, gB, cl, nC, dd, dp, dl, dm, pt, cO, cA, cB, cC, cx, cu, st, pd, pp, pa, pf, pv, es, ew, qh, qc, qk, qv, ou, cm) v3 0 (nI T - 1) := fun r2 q2 => by
          rcases nu_cs v3 T (by omega) with ⟨a, a1, a2⟩ | n3
          · have := hgA r2 q2 a a1 a2
            rw [a2] at this ⊢
            refine wx_in1 a1 ?_
            exact br_f nu_10 this
          · refine wx_in0 n3 ?_
            exact br_t rfl (no (Or.inl ⟨z, n3⟩))
        refine uB _ (fun y => ?_) (fun y => ?_)
        · exact br_f nu_10 (g2 0 ⟨fun _ => y, fun _ => rfl⟩)
        · exact br_f nu_10 (g2 1 ⟨fun p => absurd p nu_10, fun p => absurd p y⟩)
    · refine wx_in1 i1 ?_
      refine br_f nu_10 ?_
      refine wx_in0 (N := 7) n2 ?_
      refine br_t rfl ?_
      unfold wpY_setType
      dsimp only
      refine wy_in1 i1 ?_
      refine (br_f nu_10 (br_c (fun z => ⟨rfl, J⟩) (fun z => br_f ?_ ⟨rfl, J⟩)))
      intro p
      obtain ⟨j, j1, rfl⟩ := nI_of z
      have p := (nI_leI (b := 6) (by omega) (by omega)).mp p
      exact absurd (n2.resolve_left z) (nI_ge (by omega) (by omega))
  · refine wx_in0 n1 ?_
    refine br_t rfl ?_
    unfold wpY_setType
    dsimp only
    refine wy_in0 n1 ?_
    exact br_t rfl ⟨rfl, J⟩
end SIM
end
section
section SI2
theorem nu_hx {v x : Int32} {N : Nat} (hN : N < 2 ^ 31) (h : ¬ v < 0) (h2 : nI N ≤ v) (hx : x = nI N - 1 := by decide) : x < v := by
  rw [hx]; exact nu_hi hN h h2
theorem nu_nI {j N : Nat} {v : Int32} (hj : v = nI j) (h : j < N) (hN : N < 2 ^ 31) (n : v < 0 ∨ nI N ≤ v) : False := by
  rw [hj] at n
  rcases n with p | p
  · exact nI_pos (by omega) p
  · exact nI_ge h hN p
theorem i_vc_typeField {k : Nat} {u : SX} {v : SY} (I : i_Rel k u v) (hk : k + 5 ≤ 2564) (v1 : Int32) (v2 : Int32) : wpX_typeField (fun r => wpY_typeField (fun r' => r' = r ∧ i_Rel (k + 5) u v) v v1 v2) u v1 v2 := by
  refine zz_el (R := fun u v => wpX_typeField (fun r => wpY_typeField (fun r' => r' = r ∧ i_Rel (k + 5) u v) v v1 v2) u v1 v2) ?_ I
  intro T P C Q O K A B L stl cD vd eK eD eP stt tk sa sb gK gA gB cl nC dd dp dl dm pt cO cA cB cC cx cu st pd pp pa pf pv es ew qh qc qk qv ou cm eq du nx cd ct yd yp ya yf hel mT mK mV eu ev hS hT hD hV hR
  have J : i_Rel (k + 5) (nI T, nI P, nI C, nI Q, stl, cD, vd, eK, eD, eP, stt, nI O, tk, sa, sb, gK, gA, gB, cl, nC, dd, dp, dl, dm, pt, cO, cA, cB, cC, cx, cu, st, pd, pp, pa, pf, pv, es, ew, qh, qc, qk, qv, ou, cm) (nI T, nI P, nI C, nI Q, cD, vd, eK, eD, eP, stt, nI L.length, nI O, tk, sa, sb, eq, du, nx, dd, dp, dl, dm, pt, cd, ct, st, yd, yp, ya, yf, hel, mT, mK, mV, ou, eu, ev) := zz_in hS hT hD hV hR
  have T2 := hT.1.2.1
  unfold wpX_typeField wpY_typeField
  dsimp only
  rcases nu_cs v1 T (by omega) with ⟨i, i1, rfl⟩ | n1
  · have i16 : vp_in (nI i) 16 := vp_in_nI (by omega) (by decide)
    refine wx_in1 i1 ?_
    refine br_f nu_10 ?_
    rcases nu_cs v2 3 (by omega) with ⟨f, f1, rfl⟩ | n2
    · refine br_f (nI_pos (by omega)) (br_f (nI_nlt (a := 2) (by omega) (by omega)) (pk_eq f 0 (fun z => ⟨i16, ?_⟩) (fun z => pk_eq f 1 (fun y => ⟨i16, ?_⟩) (fun y => pk_eq f 2 (fun x => ⟨i16, ?_⟩) (fun x => by omega)))))
      · refine wy_in1 i1 ?_
        refine br_f nu_10 ?_
        refine wy_in1 (N := 3) f1 ?_
        subst z
        exact br_f nu_10 (br_t rfl ⟨i16, rfl, J⟩)
      · refine wy_in1 i1 ?_
        refine br_f nu_10 ?_
        refine wy_in1 (N := 3) f1 ?_
        subst y
        exact br_f nu_10 (br_f (by decide) (br_t rfl ⟨i16, rfl, J⟩))
      · refine wy_in1 i1 ?_
        refine br_f nu_10 ?_
        refine wy_in1 (N := 3) f1 ?_
        subst x
        exact br_f nu_10 (br_f (by decide) (br_f (by decide) ⟨i16, rfl, J⟩))
    · have Y : wpY_in (fun r => (r = 0 → (-1 : Int32) = -1 ∧ i_Rel (k + 5) (nI T, nI P, nI C, nI Q, stl, cD, vd, eK, eD, eP, stt, nI O, tk, sa, sb, gK, gA, gB, cl, nC, dd, dp, dl, dm, pt, cO, cA, cB, cC, cx, cu, st, pd, pp, pa, pf, pv, es, ew, qh, qc, qk, qv, ou, cm) (nI T, nI P, nI C, nI Q, cD, vd, eK, eD, eP, stt, nI L.length, nI O, tk, sa, sb, eq, du, nx, dd, dp, dl, dm, pt, cd, ct, st, yd, yp, ya, yf, hel, mT, mK, mV, ou, eu, ev)) ∧ (¬ r = 0 → wpY_in (fun r => (r = 0 → (-1 : Int32) = -1 ∧ i_Rel (k + 5) (nI T, nI P, nI C, nI Q, stl, cD, vd, eK, eD, eP, stt, nI O, tk, sa, sb, gK, gA, gB, cl, nC, dd, dp, dl, dm, pt, cO, cA, cB, cC, cx, cu, st, pd, pp, pa, pf, pv, es, ew, qh, qc, qk, qv, ou, cm) (nI T, nI P, nI C, nI Q, cD, vd, eK, eD, eP, stt, nI L.length, nI O, tk, sa, sb, eq, du, nx, dd, dp, dl, dm, pt, cd, ct, st, yd, yp, ya, yf, hel, mT, mK, mV, ou, eu, ev)) ∧ (¬ r = 0 → (v2 = 0 → vp_in (nI i) 16 ∧ tk (nI i).toNatClampNeg = -1 ∧ i_Rel (k + 5) (nI T, nI P, nI C, nI Q, stl, cD, vd, eK, eD, eP, stt, nI O, tk, sa, sb, gK, gA, gB, cl, nC, dd, dp, dl, dm, pt, cO, cA, cB, cC, cx, cu, st, pd, pp, pa, pf, pv, es, ew, qh, qc, qk, qv, ou, cm) (nI T, nI P, nI C, nI Q, cD, vd, eK, eD, eP, stt, nI L.length, nI O, tk, sa, sb, eq, du, nx, dd, dp, dl, dm, pt, cd, ct, st, yd, yp, ya, yf, hel, mT, mK, mV, ou, eu, ev)) ∧ (¬ v2 = 0 → (v2 = 1 → vp_in (nI i) 16 ∧ sa (nI i).toNatClampNeg = -1 ∧ i_Rel (k + 5) (nI T, nI P, nI C, nI Q, stl, cD, vd, eK, eD, eP, stt, nI O, tk, sa, sb, gK, gA, gB, cl, nC, dd, dp, dl, dm, pt, cO, cA, cB, cC, cx, cu, st, pd, pp, pa, pf, pv, es, ew, qh, qc, qk, qv, ou, cm) (nI T, nI P, nI C, nI Q, cD, vd, eK, eD, eP, stt, nI L.length, nI O, tk, sa, sb, eq, du, nx, dd, dp, dl, dm, pt, cd, ct, st, yd, yp, ya, yf, hel, mT, mK, mV, ou, eu, ev)) ∧ (¬ v2 = 1 → vp_in (nI i) 16 ∧ sb (nI i).toNatClampNeg = -1 ∧ i_Rel (k + 5) (nI T, nI P, nI C, nI Q, stl, cD, vd, eK, eD, eP, stt, nI O, tk, sa, sb, gK, gA, gB, cl, nC, dd, dp, dl, dm, pt, cO, cA, cB, cC, cx, cu, st, pd, pp, pa, pf, pv, es, ew, qh, qc, qk, qv, ou, cm) (nI T, nI P, nI C, nI Q, cD, vd, eK, eD, eP, stt, nI L.length, nI O, tk, sa, sb, eq, du, nx, dd, dp, dl, dm, pt, cd, ct, st, yd, yp, ya, yf, hel, mT, mK, mV, ou, eu, ev))))) (nI T, nI P, nI C, nI Q, cD, vd, eK, eD, eP, stt, nI L.length, nI O, tk, sa, sb, eq, du, nx, dd, dp, dl, dm, pt, cd, ct, st, yd, yp, ya, yf, hel, mT, mK, mV, ou, eu, ev) v2 3)) (nI T, nI P, nI C, nI Q, cD, vd, eK, eD, eP, stt, nI L.length, nI O, tk, sa, sb, eq, du, nx, dd, dp, dl, dm, pt, cd, ct, st, yd, yp, ya, yf, hel, mT, mK, mV, ou, eu, ev) (nI i) (nI T) := by
        refine wy_in1 i1 ?_
        refine br_f nu_10 ?_
        refine wy_in0 (N := 3) n2 ?_
        exact br_t rfl ⟨rfl, J⟩
      refine br_c (fun z => Y) (fun z => br_t (nu_hx (N := 3) (by omega) z (n2.resolve_left z)) Y)
  · refine wx_in0 n1 ?_
    refine br_t rfl ?_
    refine wy_in0 n1 ?_
    exact br_t rfl ⟨rfl, J⟩
theorem zz_eq01 {x : Int32} {R : Prop} (h1 : R → x = 1) (h0 : ¬ R → x = 0) : x = 0 ∨ x = 1 := by
  by_cases z : R
  · exact Or.inr (h1 z)
  · exact Or.inl (h0 z)
section YE
variable {tY pR cH cP cD vd eK eD eP stt mC oC : Int32} {tk sa sb eq du nx dd dp dl dm pt cd ct st yd yp ya yf hel mT mK mV ou eu ev : Nat → Int32}
variable {T : Nat} {K A B : Nat → Nat}
theorem wy_equal {post : Int32 → SY → Prop} (w : ty_W T K A B) (ha : tt_A K A B tk sa sb) {t s : Nat} (t1 : t < T) (s1 : s < T) (k1 : ty_E K A B t s → ∀ eq du nx : Nat → Int32, post 1 (nI T, pR, cH, cP, cD, vd, eK, eD, eP, stt, mC, oC, tk, sa, sb, eq, du, nx, dd, dp, dl, dm, pt, cd, ct, st, yd, yp, ya, yf, hel, mT, mK, mV, ou, eu, ev)) (k0 : ¬ ty_E K A B t s → ∀ eq du nx : Nat → Int32, post 0 (nI T, pR, cH, cP, cD, vd, eK, eD, eP, stt, mC, oC, tk, sa, sb, eq, du, nx, dd, dp, dl, dm, pt, cd, ct, st, yd, yp, ya, yf, hel, mT, mK, mV, ou, eu, ev)) : wpY_equal post (nI T, pR, cH, cP, cD, vd, eK, eD, eP, stt, mC, oC, tk, sa, sb, eq, du, nx, dd, dp, dl, dm, pt, cd, ct, st, yd, yp, ya, yf, hel, mT, mK, mV, ou, eu, ev) (nI t) (nI s) := by
  have T2 := w.2.1
  unfold wpY_equal
  dsimp only
  refine wy_in1 t1 ?_
  refine br_f nu_10 ?_
  refine wy_in1 s1 ?_
  refine br_f nu_10 ?_
  refine wy_relate w ha (fun eq du nx q1 q2 => ?_)
  have a := tb_at q1 (show t < 16 by omega) (show s < 16 by omega)
  dsimp only
  rw [nu_m16, nI_add, nI_clamp (by omega)]
  refine ⟨vp_in_nI (by omega) (by decide), nu_nb (zz_eq01 a.1 a.2), ?_⟩
  by_cases z : ty_E K A B t s
  · rw [a.1 z]; exact k1 z eq du nx
  · rw [a.2 z]; exact k0 z eq du nx
theorem wy_equal0 {post : Int32 → SY → Prop} {v1 v2 : Int32} (hT : T ≤ 16) (h : (v1 < 0 ∨ nI T ≤ v1) ∨ (v2 < 0 ∨ nI T ≤ v2)) (k : post 0 (nI T, pR, cH, cP, cD, vd, eK, eD, eP, stt, mC, oC, tk, sa, sb, eq, du, nx, dd, dp, dl, dm, pt, cd, ct, st, yd, yp, ya, yf, hel, mT, mK, mV, ou, eu, ev)) : wpY_equal post (nI T, pR, cH, cP, cD, vd, eK, eD, eP, stt, mC, oC, tk, sa, sb, eq, du, nx, dd, dp, dl, dm, pt, cd, ct, st, yd, yp, ya, yf, hel, mT, mK, mV, ou, eu, ev) v1 v2 := by
  unfold wpY_equal
  dsimp only
  rcases nu_cs v1 T (by omega) with ⟨t, t1, rfl⟩ | n1
  · refine wy_in1 t1 ?_
    refine br_f nu_10 ?_
    refine wy_in0 (h.resolve_left (fun q => nu_nI rfl t1 (by omega) q)) ?_
    exact br_t rfl k
  · refine wy_in0 n1 ?_
    exact br_t rfl k
end YE
theorem i_vc_equal {k : Nat} {u : SX} {v : SY} (I : i_Rel k u v) (hk : k + 5 ≤ 2564) (v1 : Int32) (v2 : Int32) : wpX_equal (fun r u' => wpY_equal (fun r' v' => r' = r ∧ i_Rel (k + 5) u' v') v v1 v2) u v1 v2 := by
  refine zz_el (R := fun u v => wpX_equal (fun r u' => wpY_equal (fun r' v' => r' = r ∧ i_Rel (k + 5) u' v') v v1 v2) u v1 v2) ?_ I
  intro T P C Q O K A B L stl cD vd eK eD eP stt tk sa sb gK gA gB cl nC dd dp dl dm pt cO cA cB cC cx cu st pd pp pa pf pv es ew qh qc qk qv ou cm eq du nx cd ct yd yp ya yf hel mT mK mV eu ev hS hT hD hV hR
  have J : i_Rel (k + 5) (nI T, nI P, nI C, nI Q, stl, cD, vd, eK, eD, eP, stt, nI O, tk, sa, sb, gK, gA, gB, cl, nC, dd, dp, dl, dm, pt, cO, cA, cB, cC, cx, cu, st, pd, pp, pa, pf, pv, es, ew, qh, qc, qk, qv, ou, cm) (nI T, nI P, nI C, nI Q, cD, vd, eK, eD, eP, stt, nI L.length, nI O, tk, sa, sb, eq, du, nx, dd, dp, dl, dm, pt, cd, ct, st, yd, yp, ya, yf, hel, mT, mK, mV, ou, eu, ev) := zz_in hS hT hD hV hR
  have T2 := hT.1.2.1
  unfold wpX_equal
  dsimp only
  rcases nu_cs v1 T (by omega) with ⟨t, t1, rfl⟩ | n1
  · refine wx_in1 t1 ?_
    refine br_f nu_10 ?_
    rcases nu_cs v2 T (by omega) with ⟨s, s1, rfl⟩ | n2
    · refine wx_in1 s1 ?_
      refine br_f nu_10 ?_
      refine wx_refresh hT.1 hT.2.1 hT.2.2 (fun gK gA gB cl nC c c1 c2 => ?_)
      have b1 := (c1 t (by omega)).1
      have b2 := (c1 s (by omega)).1
      have e1 : (nI t).toNatClampNeg = t := nI_clamp (by omega)
      have e2 : (nI s).toNatClampNeg = s := nI_clamp (by omega)
      dsimp only
      rw [e1, e2, c2 t (by omega), c2 s (by omega)]
      refine ⟨vp_in_nI (by omega) (by decide), vp_in_nI (by omega) (by decide), ?_⟩
      have J' : ∀ eq du nx : Nat → Int32, i_Rel (k + 5) (nI T, nI P, nI C, nI Q, 0, cD, vd, eK, eD, eP, stt, nI O, tk, sa, sb, gK, gA, gB, cl, nC, dd, dp, dl, dm, pt, cO, cA, cB, cC, cx, cu, st, pd, pp, pa, pf, pv, es, ew, qh, qc, qk, qv, ou, cm) (nI T, nI P, nI C, nI Q, cD, vd, eK, eD, eP, stt, nI L.length, nI O, tk, sa, sb, eq, du, nx, dd, dp, dl, dm, pt, cd, ct, st, yd, yp, ya, yf, hel, mT, mK, mV, ou, eu, ev) := fun eq du nx => zz_in hS ⟨hT.1, hT.2.1, fun _ => ⟨c, c1, c2⟩⟩ hD hV hR
      refine pk_eq (c t) (c s) (fun z => ?_) (fun z => ?_)
      · exact wy_equal hT.1 hT.2.1 t1 s1 (fun _ eq du nx => ⟨rfl, J' eq du nx⟩) (fun q => absurd ((ty_C_E hT.1 c1 t1 s1).mp z) q)
      · exact wy_equal hT.1 hT.2.1 t1 s1 (fun q => absurd ((ty_C_E hT.1 c1 t1 s1).mpr q) z) (fun _ eq du nx => ⟨rfl, J' eq du nx⟩)
    · refine wx_in0 n2 ?_
      exact br_t rfl (wy_equal0 T2 (Or.inr n2) ⟨rfl, J⟩)
  · refine wx_in0 n1 ?_
    exact br_t rfl (wy_equal0 T2 (Or.inl n1) ⟨rfl, J⟩)
section YE
variable {tY pR cH cP cD vd eK eD eP stt mC oC : Int32} {tk sa sb eq du nx dd dp dl dm pt cd ct st yd yp ya yf hel mT mK mV ou eu ev : Nat → Int32}
variable {T : Nat} {K A B : Nat → Nat}
theorem wy_dual {post : Int32 → SY → Prop} (w : ty_W T K A B) (ha : tt_A K A B tk sa sb) {t s : Nat} (t1 : t < T) (s1 : s < T) (k1 : ty_D K A B t s → ∀ eq du nx : Nat → Int32, post 1 (nI T, pR, cH, cP, cD, vd, eK, eD, eP, stt, mC, oC, tk, sa, sb, eq, du, nx, dd, dp, dl, dm, pt, cd, ct, st, yd, yp, ya, yf, hel, mT, mK, mV, ou, eu, ev)) (k0 : ¬ ty_D K A B t s → ∀ eq du nx : Nat → Int32, post 0 (nI T, pR, cH, cP, cD, vd, eK, eD, eP, stt, mC, oC, tk, sa, sb, eq, du, nx, dd, dp, dl, dm, pt, cd, ct, st, yd, yp, ya, yf, hel, mT, mK, mV, ou, eu, ev)) : wpY_dual post (nI T, pR, cH, cP, cD, vd, eK, eD, eP, stt, mC, oC, tk, sa, sb, eq, du, nx, dd, dp, dl, dm, pt, cd, ct, st, yd, yp, ya, yf, hel, mT, mK, mV, ou, eu, ev) (nI t) (nI s) := by
  have T2 := w.2.1
  unfold wpY_dual
  dsimp only
  refine wy_in1 t1 ?_
  refine br_f nu_10 ?_
  refine wy_in1 s1 ?_
  refine br_f nu_10 ?_
  refine wy_relate w ha (fun eq du nx q1 q2 => ?_)
  have a := tb_at q2 (show t < 16 by omega) (show s < 16 by omega)
  dsimp only
  rw [nu_m16, nI_add, nI_clamp (by omega)]
  refine ⟨vp_in_nI (by omega) (by decide), nu_nb (zz_eq01 a.1 a.2), ?_⟩
  by_cases z : ty_D K A B t s
  · rw [a.1 z]; exact k1 z eq du nx
  · rw [a.2 z]; exact k0 z eq du nx
theorem wy_dual0 {post : Int32 → SY → Prop} {v1 v2 : Int32} (hT : T ≤ 16) (h : (v1 < 0 ∨ nI T ≤ v1) ∨ (v2 < 0 ∨ nI T ≤ v2)) (k : post 0 (nI T, pR, cH, cP, cD, vd, eK, eD, eP, stt, mC, oC, tk, sa, sb, eq, du, nx, dd, dp, dl, dm, pt, cd, ct, st, yd, yp, ya, yf, hel, mT, mK, mV, ou, eu, ev)) : wpY_dual post (nI T, pR, cH, cP, cD, vd, eK, eD, eP, stt, mC, oC, tk, sa, sb, eq, du, nx, dd, dp, dl, dm, pt, cd, ct, st, yd, yp, ya, yf, hel, mT, mK, mV, ou, eu, ev) v1 v2 := by
  unfold wpY_dual
  dsimp only
  rcases nu_cs v1 T (by omega) with ⟨t, t1, rfl⟩ | n1
  · refine wy_in1 t1 ?_
    refine br_f nu_10 ?_
    refine wy_in0 (h.resolve_left (fun q => nu_nI rfl t1 (by omega) q)) ?_
    exact br_t rfl k
  · refine wy_in0 n1 ?_
    exact br_t rfl k
end YE
theorem i_vc_dual {k : Nat} {u : SX} {v : SY} (I : i_Rel k u v) (hk : k + 5 ≤ 2564) (v1 : Int32) (v2 : Int32) : wpX_dual (fun r u' => wpY_dual (fun r' v' => r' = r ∧ i_Rel (k + 5) u' v') v v1 v2) u v1 v2 := by
  refine zz_el (R := fun u v => wpX_dual (fun r u' => wpY_dual (fun r' v' => r' = r ∧ i_Rel (k + 5) u' v') v v1 v2) u v1 v2) ?_ I
  intro T P C Q O K A B L stl cD vd eK eD eP stt tk sa sb gK gA gB cl nC dd dp dl dm pt cO cA cB cC cx cu st pd pp pa pf pv es ew qh qc qk qv ou cm eq du nx cd ct yd yp ya yf hel mT mK mV eu ev hS hT hD hV hR
  have J : i_Rel (k + 5) (nI T, nI P, nI C, nI Q, stl, cD, vd, eK, eD, eP, stt, nI O, tk, sa, sb, gK, gA, gB, cl, nC, dd, dp, dl, dm, pt, cO, cA, cB, cC, cx, cu, st, pd, pp, pa, pf, pv, es, ew, qh, qc, qk, qv, ou, cm) (nI T, nI P, nI C, nI Q, cD, vd, eK, eD, eP, stt, nI L.length, nI O, tk, sa, sb, eq, du, nx, dd, dp, dl, dm, pt, cd, ct, st, yd, yp, ya, yf, hel, mT, mK, mV, ou, eu, ev) := zz_in hS hT hD hV hR
  have T2 := hT.1.2.1
  unfold wpX_dual
  dsimp only
  rcases nu_cs v1 T (by omega) with ⟨t, t1, rfl⟩ | n1
  · refine wx_in1 t1 ?_
    refine br_f nu_10 ?_
    rcases nu_cs v2 T (by omega) with ⟨s, s1, rfl⟩ | n2
    · refine wx_in1 s1 ?_
      refine br_f nu_10 ?_
      refine wx_refresh hT.1 hT.2.1 hT.2.2 (fun gK gA gB cl nC c c1 c2 => ?_)
      have b1 := (c1 (T + t) (by omega)).1
      have b2 := (c1 s (by omega)).1
      have e2 : (nI s).toNatClampNeg = s := nI_clamp (by omega)
      dsimp only
      rw [nI_add, nI_clamp (show T + t < 2 ^ 31 by omega), e2, c2 (T + t) (by omega), c2 s (by omega)]
      refine ⟨vp_in_nI (by omega) (by decide), vp_in_nI (by omega) (by decide), ?_⟩
      have J' : ∀ eq du nx : Nat → Int32, i_Rel (k + 5) (nI T, nI P, nI C, nI Q, 0, cD, vd, eK, eD, eP, stt, nI O, tk, sa, sb, gK, gA, gB, cl, nC, dd, dp, dl, dm, pt, cO, cA, cB, cC, cx, cu, st, pd, pp, pa, pf, pv, es, ew, qh, qc, qk, qv, ou, cm) (nI T, nI P, nI C, nI Q, cD, vd, eK, eD, eP, stt, nI L.length, nI O, tk, sa, sb, eq, du, nx, dd, dp, dl, dm, pt, cd, ct, st, yd, yp, ya, yf, hel, mT, mK, mV, ou, eu, ev) := fun eq du nx => zz_in hS ⟨hT.1, hT.2.1, fun _ => ⟨c, c1, c2⟩⟩ hD hV hR
      refine pk_eq (c (T + t)) (c s) (fun z => ?_) (fun z => ?_)
      · exact wy_dual hT.1 hT.2.1 t1 s1 (fun _ eq du nx => ⟨rfl, J' eq du nx⟩) (fun q => absurd ((ty_C_D hT.1 c1 t1 s1).mp z) q)
      · exact wy_dual hT.1 hT.2.1 t1 s1 (fun q => absurd ((ty_C_D hT.1 c1 t1 s1).mpr q) z) (fun _ eq du nx => ⟨rfl, J' eq du nx⟩)
    · refine wx_in0 n2 ?_
      exact br_t rfl (wy_dual0 T2 (Or.inr n2) ⟨rfl, J⟩)
  · refine wx_in0 n1 ?_
    exact br_t rfl (wy_dual0 T2 (Or.inl n1) ⟨rfl, J⟩)
theorem i_vc_outAt {k : Nat} {u : SX} {v : SY} (I : i_Rel k u v) (hk : k + 5 ≤ 2564) (v1 : Int32) : wpX_outAt (fun r => wpY_outAt (fun r' => r' = r ∧ i_Rel (k + 5) u v) v v1) u v1 := by
  refine zz_el (R := fun u v => wpX_outAt (fun r => wpY_outAt (fun r' => r' = r ∧ i_Rel (k + 5) u v) v v1) u v1) ?_ I
  intro T P C Q O K A B L stl cD vd eK eD eP stt tk sa sb gK gA gB cl nC dd dp dl dm pt cO cA cB cC cx cu st pd pp pa pf pv es ew qh qc qk qv ou cm eq du nx cd ct yd yp ya yf hel mT mK mV eu ev hS hT hD hV hR
  have J : i_Rel (k + 5) (nI T, nI P, nI C, nI Q, stl, cD, vd, eK, eD, eP, stt, nI O, tk, sa, sb, gK, gA, gB, cl, nC, dd, dp, dl, dm, pt, cO, cA, cB, cC, cx, cu, st, pd, pp, pa, pf, pv, es, ew, qh, qc, qk, qv, ou, cm) (nI T, nI P, nI C, nI Q, cD, vd, eK, eD, eP, stt, nI L.length, nI O, tk, sa, sb, eq, du, nx, dd, dp, dl, dm, pt, cd, ct, st, yd, yp, ya, yf, hel, mT, mK, mV, ou, eu, ev) := zz_in hS hT hD hV hR
  have O2 := hS.2.2.2.2.2.2
  unfold wpX_outAt wpY_outAt
  dsimp only
  rcases nu_cs v1 O (by omega) with ⟨i, i1, rfl⟩ | n1
  · refine wx_in1 i1 ?_
    exact br_f nu_10 ⟨vp_in_nI (by omega) (by decide), br_f (nI_pos (by omega)) (br_f (nI_ge i1 (by omega)) ⟨vp_in_nI (by omega) (by decide), rfl, J⟩)⟩
  · refine wx_in0 n1 ?_
    exact br_t rfl (br_c (fun z => ⟨rfl, J⟩) (fun z => br_t (n1.resolve_left z) ⟨rfl, J⟩))
end SI2
end
section
section DEF
variable {tY pR cH cP stl cD vd eK eD eP stt oC mC : Int32} {tk sa sb gK gA gB cl nC dd dp dl dm pt cO cA cB cC cx cu st pd pp pa pf pv es ew qh qc qk qv ou cm eq du nx cd ct yd yp ya yf hel mT mK mV eu ev : Nat → Int32}
variable {T P C Q O : Nat} {K A B : Nat → Nat} {L : List MG}
/-! definitions begun, parameters set, read -/
theorem wx_be53 {post : Int32 → SX → Prop} {d : Nat} (hd : d < 6) (hP : P ≤ 6) (hC : C ≤ 8) (k : post 0 (tY, nI P, nI C, cP, stl, nI d, 0, 0, -1, -1, 0, 0, tk, sa, sb, gK, gA, gB, cl, nC, dd, dp, dl, dm, fw pt (d * 6) 6 (fun _ => 0), cO, cA, cB, cC, cx, cu, fw st 0 P (fun _ => 0), fw pd 0 P (fun _ => 0), fw pp 0 P (fun _ => 0), fw pa 0 P (fun _ => 0), fw pf 0 P (fun _ => 0), fw pv 0 (P * 6) (fun _ => -1), fw es 0 (2 * C) (fun _ => 0), fw ew 0 (2 * C) (fun _ => -1), fw qh 0 (2 * C) (fun _ => 0), fw qc 0 (2 * C) (fun _ => 0), qk, qv, ou, cm)) : ∀ n v, v ≤ 6 → 6 < n + v → wX_begin_53 post (nI d) tY (nI P) (nI C) cP stl cD vd eK eD eP stt oC n (nI v) tk sa sb gK gA gB cl nC dd dp dl dm (fw pt (d * 6) v (fun _ => 0)) cO cA cB cC cx cu st pd pp pa pf pv es ew qh qc qk qv ou cm := by
  intro n
  induction n with
  | zero => intro v h1 h2; omega
  | succ n ih =>
    intro v h1 h2
    by_cases h : v = 6
    · subst h; exact br_t (nI_le (a := 6) (b := 6) (by omega) (by decide)) (wx_edited hP hC k)
    · refine br_f (nI_ge (b := 6) (by omega) (by decide)) ?_
      rw [nu_m6, nI_add, nI_clamp (show d * 6 + v < 2 ^ 31 by omega)]
      exact ⟨vp_in_nI (by omega) (by decide), nm_r (fw_s _ _ _ _ rfl) (nm_r (nI_1 v) (ih (v + 1) (by omega) (by omega)))⟩
theorem wx_begin {post : Int32 → SX → Prop} {d n : Nat} (hd : d < 6) (hn : n < 7) (hP : P ≤ 6) (hC : C ≤ 8) (k : post 0 (tY, nI P, nI C, cP, stl, nI d, 0, 0, -1, -1, 0, 0, tk, sa, sb, gK, gA, gB, cl, nC, upd dd d 1, upd dp d (nI n), upd dl d 0, upd dm d 1, fw pt (d * 6) 6 (fun _ => 0), cO, cA, cB, cC, cx, cu, fw st 0 P (fun _ => 0), fw pd 0 P (fun _ => 0), fw pp 0 P (fun _ => 0), fw pa 0 P (fun _ => 0), fw pf 0 P (fun _ => 0), fw pv 0 (P * 6) (fun _ => -1), fw es 0 (2 * C) (fun _ => 0), fw ew 0 (2 * C) (fun _ => -1), fw qh 0 (2 * C) (fun _ => 0), fw qc 0 (2 * C) (fun _ => 0), qk, qv, ou, cm)) : wpX_begin post (tY, nI P, nI C, cP, stl, cD, vd, eK, eD, eP, stt, oC, tk, sa, sb, gK, gA, gB, cl, nC, dd, dp, dl, dm, pt, cO, cA, cB, cC, cx, cu, st, pd, pp, pa, pf, pv, es, ew, qh, qc, qk, qv, ou, cm) (nI d) (nI n) := by
  have e1 : (nI d).toNatClampNeg = d := nI_clamp (by omega)
  have i1 : vp_in (nI d) 6 := vp_in_nI hd (by decide)
  unfold wpX_begin
  refine wx_in1 (N := 6) hd ?_
  refine br_f nu_10 ?_
  refine wx_in1 (N := 7) hn ?_
  refine br_f nu_10 ?_
  rw [e1, nu_nar1]
  refine ⟨i1, nm_e ⟨i1, nm_e ⟨i1, nm_e ⟨i1, nm_e ⟨7, ?_⟩⟩⟩⟩⟩
  rw [← fw_0 pt (d * 6) (fun _ => 0)]
  exact wx_be53 hd hP hC k 7 0 (by omega) (by omega)
theorem wx_begin0 {post : Int32 → SX → Prop} {v1 v2 : Int32} (h : (v1 < 0 ∨ nI 6 ≤ v1) ∨ (v2 < 0 ∨ nI 7 ≤ v2)) (k : post (-1) (tY, pR, cH, cP, stl, cD, vd, eK, eD, eP, stt, oC, tk, sa, sb, gK, gA, gB, cl, nC, dd, dp, dl, dm, pt, cO, cA, cB, cC, cx, cu, st, pd, pp, pa, pf, pv, es, ew, qh, qc, qk, qv, ou, cm)) : wpX_begin post (tY, pR, cH, cP, stl, cD, vd, eK, eD, eP, stt, oC, tk, sa, sb, gK, gA, gB, cl, nC, dd, dp, dl, dm, pt, cO, cA, cB, cC, cx, cu, st, pd, pp, pa, pf, pv, es, ew, qh, qc, qk, qv, ou, cm) v1 v2 := by
  unfold wpX_begin
  rcases nu_cs v1 6 (by omega) with ⟨t, t1, rfl⟩ | n1
  · refine wx_in1 (N := 6) t1 ?_
    refine br_f nu_10 ?_
    refine wx_in0 (N := 7) (h.resolve_left (fun q => nu_nI rfl t1 (by omega) q)) ?_
    exact br_t rfl k
  · refine wx_in0 (N := 6) n1 ?_
    exact br_t rfl k
theorem wy_be52 {post : Int32 → SY → Prop} {d : Nat} (hd : d < 6) (k : post 0 (tY, pR, cH, cP, nI d, 0, 0, -1, -1, 0, 0, 0, tk, sa, sb, eq, du, nx, dd, dp, dl, dm, fw pt (d * 6) 6 (fun _ => 0), cd, ct, fw st 0 6 (fun _ => 0), yd, yp, ya, yf, fw hel 0 36 (fun _ => -1), mT, mK, mV, ou, eu, ev)) : ∀ n v, v ≤ 6 → 6 < n + v → wY_begin_52 post (nI d) tY pR cH cP cD vd eK eD eP stt mC oC n (nI v) tk sa sb eq du nx dd dp dl dm (fw pt (d * 6) v (fun _ => 0)) cd ct st yd yp ya yf hel mT mK mV ou eu ev := by
  intro n
  induction n with
  | zero => intro v h1 h2; omega
  | succ n ih =>
    intro v h1 h2
    by_cases h : v = 6
    · subst h; exact br_t (nI_le (a := 6) (b := 6) (by omega) (by decide)) (wy_edited k)
    · refine br_f (nI_ge (b := 6) (by omega) (by decide)) ?_
      rw [nu_m6, nI_add, nI_clamp (show d * 6 + v < 2 ^ 31 by omega)]
      exact ⟨vp_in_nI (by omega) (by decide), nm_r (fw_s _ _ _ _ rfl) (nm_r (nI_1 v) (ih (v + 1) (by omega) (by omega)))⟩
theorem wy_begin {post : Int32 → SY → Prop} {d n : Nat} (hd : d < 6) (hn : n < 7) (k : post 0 (tY, pR, cH, cP, nI d, 0, 0, -1, -1, 0, 0, 0, tk, sa, sb, eq, du, nx, upd dd d 1, upd dp d (nI n), upd dl d 0, upd dm d 1, fw pt (d * 6) 6 (fun _ => 0), cd, ct, fw st 0 6 (fun _ => 0), yd, yp, ya, yf, fw hel 0 36 (fun _ => -1), mT, mK, mV, ou, eu, ev)) : wpY_begin post (tY, pR, cH, cP, cD, vd, eK, eD, eP, stt, mC, oC, tk, sa, sb, eq, du, nx, dd, dp, dl, dm, pt, cd, ct, st, yd, yp, ya, yf, hel, mT, mK, mV, ou, eu, ev) (nI d) (nI n) := by
  have e1 : (nI d).toNatClampNeg = d := nI_clamp (by omega)
  have i1 : vp_in (nI d) 6 := vp_in_nI hd (by decide)
  unfold wpY_begin
  refine wy_in1 (N := 6) hd ?_
  refine br_f nu_10 (br_f (nI_pos (by omega)) (br_t (nI_le (b := 6) (by omega) (by omega)) ?_))
  rw [e1, nu_nar1]
  refine ⟨i1, nm_e ⟨i1, nm_e ⟨i1, nm_e ⟨i1, nm_e ⟨7, ?_⟩⟩⟩⟩⟩
  rw [← fw_0 pt (d * 6) (fun _ => 0)]
  exact wy_be52 hd k 7 0 (by omega) (by omega)
theorem wy_begin0 {post : Int32 → SY → Prop} {v1 v2 : Int32} (h : (v1 < 0 ∨ nI 6 ≤ v1) ∨ (v2 < 0 ∨ nI 7 ≤ v2)) (k : post (-1) (tY, pR, cH, cP, cD, vd, eK, eD, eP, stt, mC, oC, tk, sa, sb, eq, du, nx, dd, dp, dl, dm, pt, cd, ct, st, yd, yp, ya, yf, hel, mT, mK, mV, ou, eu, ev)) : wpY_begin post (tY, pR, cH, cP, cD, vd, eK, eD, eP, stt, mC, oC, tk, sa, sb, eq, du, nx, dd, dp, dl, dm, pt, cd, ct, st, yd, yp, ya, yf, hel, mT, mK, mV, ou, eu, ev) v1 v2 := by
  unfold wpY_begin
  rcases nu_cs v1 6 (by omega) with ⟨t, t1, rfl⟩ | n1
  · refine wy_in1 (N := 6) t1 ?_
    have h := h.resolve_left (fun q => nu_nI rfl t1 (by omega) q)
    refine br_f nu_10 (br_c (fun z => k) (fun z => br_f (fun p => ?_) k))
    exact absurd p (Int32.not_le.mpr (nu_hx (N := 7) (by omega) z (h.resolve_left z)))
  · refine wy_in0 (N := 6) n1 ?_
    exact br_t rfl k
theorem df_c {T' : Nat} {dp' dl' dm' : Nat → Int32} {d n l : Nat} (D : df T dp dl dm cO cA cB cC d n l) (h1 : dp' d = dp d) (h2 : dl' d = dl d) (h3 : dm' d = dm d) : df T dp' dl' dm' cO cA cB cC d n l := by
  obtain ⟨a1, a2, a3, a4, a5, a6, a7⟩ := D
  exact ⟨h1.trans a1, a2, h2.trans a3, a4, h3.trans a5, a6, a7⟩
theorem zd_begin (hT : 2 ≤ T) (h : zd T dd dp dl dm pt cO cA cB cC cd cD) {d n : Nat} (hd : d < 6) (hn : n < 7) : zd T (upd dd d 1) (upd dp d (nI n)) (upd dl d 0) (upd dm d 1) (fw pt (d * 6) 6 (fun _ => 0)) cO cA cB cC cd (nI d) := by
  obtain ⟨z1, z2, z3, z4, z5⟩ := h
  refine ⟨fun j hj => ?_, fun e he => ?_, fun e he hn' => ?_, z4, Or.inr ⟨d, hd, rfl, by rw [pk_us]; decide⟩⟩
  · by_cases q : d * 6 ≤ j ∧ j < d * 6 + 6
    · refine ⟨0, by omega, ?_⟩
      unfold fw; rw [if_pos q]; rfl
    · rw [fw_out (by omega)]; exact z1 j hj
  · by_cases q : e = d
    · rw [q, pk_us]; exact ⟨n, by omega, rfl⟩
    · rw [pk_un q]; exact z2 e he
  · by_cases q : e = d
    · subst q
      exact ⟨n, 0, pk_us, by omega, pk_us, by omega, pk_us, fun i hi => absurd hi (Nat.not_lt_zero i), fun i hi => absurd hi (Nat.not_lt_zero i)⟩
    · rw [pk_un q] at hn'
      obtain ⟨n', l, D⟩ := z3 e he hn'
      exact ⟨n', l, df_c (T' := T) D (pk_un q) (pk_un q) (pk_un q)⟩
end DEF
theorem i_vc_begin {k : Nat} {u : SX} {v : SY} (I : i_Rel k u v) (hk : k + 5 ≤ 2564) (v1 : Int32) (v2 : Int32) : wpX_begin (fun r u' => wpY_begin (fun r' v' => r' = r ∧ i_Rel (k + 5) u' v') v v1 v2) u v1 v2 := by
  refine zz_el (R := fun u v => wpX_begin (fun r u' => wpY_begin (fun r' v' => r' = r ∧ i_Rel (k + 5) u' v') v v1 v2) u v1 v2) ?_ I
  intro T P C Q O K A B L stl cD vd eK eD eP stt tk sa sb gK gA gB cl nC dd dp dl dm pt cO cA cB cC cx cu st pd pp pa pf pv es ew qh qc qk qv ou cm eq du nx cd ct yd yp ya yf hel mT mK mV eu ev hS hT hD hV hR
  have J : i_Rel (k + 5) (nI T, nI P, nI C, nI Q, stl, cD, vd, eK, eD, eP, stt, nI O, tk, sa, sb, gK, gA, gB, cl, nC, dd, dp, dl, dm, pt, cO, cA, cB, cC, cx, cu, st, pd, pp, pa, pf, pv, es, ew, qh, qc, qk, qv, ou, cm) (nI T, nI P, nI C, nI Q, cD, vd, eK, eD, eP, stt, nI L.length, nI O, tk, sa, sb, eq, du, nx, dd, dp, dl, dm, pt, cd, ct, st, yd, yp, ya, yf, hel, mT, mK, mV, ou, eu, ev) := zz_in hS hT hD hV hR
  rcases nu_cs v1 6 (by omega) with ⟨d, d1, rfl⟩ | n1
  · rcases nu_cs v2 7 (by omega) with ⟨n, n1, rfl⟩ | n2
    · exact wx_begin d1 n1 hS.2.1 hS.2.2.2.1 (wy_begin d1 n1 ⟨rfl, zz_ed hS hT (zd_begin hT.1.1 hD d1 n1) hV.2.1 hV.2.2 hR.2.1⟩)
    · exact wx_begin0 (Or.inr n2) (wy_begin0 (Or.inr n2) ⟨rfl, J⟩)
  · exact wx_begin0 (Or.inl n1) (wy_begin0 (Or.inl n1) ⟨rfl, J⟩)
section PAR
variable {tY pR cH cP stl cD vd eK eD eP stt oC mC : Int32} {tk sa sb gK gA gB cl nC dd dp dl dm pt cO cA cB cC cx cu st pd pp pa pf pv es ew qh qc qk qv ou cm eq du nx cd ct yd yp ya yf hel mT mK mV eu ev : Nat → Int32}
variable {T P C Q O : Nat} {K A B : Nat → Nat} {L : List MG}
theorem wx_param {post : Int32 → SX → Prop} {d i t n : Nat} (hd : d < 6) (hdd : ¬ dd d = 0) (hn : dp d = nI n) (n6 : n ≤ 6) (hi : i < n) (ht : t < T) (hT : T ≤ 16) (hP : P ≤ 6) (hC : C ≤ 8) (k : post 0 (nI T, nI P, nI C, cP, stl, cD, 0, 0, -1, -1, 0, 0, tk, sa, sb, gK, gA, gB, cl, nC, dd, dp, dl, dm, upd pt (d * 6 + i) (nI t), cO, cA, cB, cC, cx, cu, fw st 0 P (fun _ => 0), fw pd 0 P (fun _ => 0), fw pp 0 P (fun _ => 0), fw pa 0 P (fun _ => 0), fw pf 0 P (fun _ => 0), fw pv 0 (P * 6) (fun _ => -1), fw es 0 (2 * C) (fun _ => 0), fw ew 0 (2 * C) (fun _ => -1), fw qh 0 (2 * C) (fun _ => 0), fw qc 0 (2 * C) (fun _ => 0), qk, qv, ou, cm)) : wpX_param post (nI T, nI P, nI C, cP, stl, cD, vd, eK, eD, eP, stt, oC, tk, sa, sb, gK, gA, gB, cl, nC, dd, dp, dl, dm, pt, cO, cA, cB, cC, cx, cu, st, pd, pp, pa, pf, pv, es, ew, qh, qc, qk, qv, ou, cm) (nI d) (nI i) (nI t) := by
  have e1 : (nI d).toNatClampNeg = d := nI_clamp (by omega)
  have i1 : vp_in (nI d) 6 := vp_in_nI hd (by decide)
  unfold wpX_param
  refine wx_isDecl hd (fun z => absurd z hdd) (fun _ => ?_)
  refine br_f nu_10 ⟨i1, ?_⟩
  rw [e1, hn]
  refine wx_in1 hi ?_
  refine br_f nu_10 ?_
  refine wx_in1 ht ?_
  refine br_f nu_10 ?_
  rw [nu_m6, nI_add, nI_clamp (show d * 6 + i < 2 ^ 31 by omega)]
  exact ⟨vp_in_nI (by omega) (by decide), nm_e (wx_edited hP hC k)⟩
theorem wx_param0 {post : Int32 → SX → Prop} {v1 v2 v3 : Int32} (hT : T ≤ 16) (hp : ∀ d, d < 6 → ∃ n, n ≤ 6 ∧ dp d = nI n) (h : (v1 < 0 ∨ nI 6 ≤ v1) ∨ (∃ d, d < 6 ∧ v1 = nI d ∧ (dd d = 0 ∨ (v2 < 0 ∨ dp d ≤ v2))) ∨ (v3 < 0 ∨ nI T ≤ v3)) (k : post (-1) (nI T, pR, cH, cP, stl, cD, vd, eK, eD, eP, stt, oC, tk, sa, sb, gK, gA, gB, cl, nC, dd, dp, dl, dm, pt, cO, cA, cB, cC, cx, cu, st, pd, pp, pa, pf, pv, es, ew, qh, qc, qk, qv, ou, cm)) : wpX_param post (nI T, pR, cH, cP, stl, cD, vd, eK, eD, eP, stt, oC, tk, sa, sb, gK, gA, gB, cl, nC, dd, dp, dl, dm, pt, cO, cA, cB, cC, cx, cu, st, pd, pp, pa, pf, pv, es, ew, qh, qc, qk, qv, ou, cm) v1 v2 v3 := by
  unfold wpX_param
  rcases nu_cs v1 6 (by omega) with ⟨d, d1, rfl⟩ | n1
  · have e1 : (nI d).toNatClampNeg = d := nI_clamp (by omega)
    have h := h.resolve_left (fun q => nu_nI rfl d1 (by omega) q)
    obtain ⟨n, n1, n2⟩ := hp d d1
    refine wx_isDecl d1 (fun z => br_t rfl k) (fun z => br_f nu_10 ⟨vp_in_nI d1 (by decide), ?_⟩)
    rw [e1, n2]
    rcases nu_cs v2 n (by omega) with ⟨i, i1, rfl⟩ | n3
    · refine wx_in1 i1 ?_
      refine br_f nu_10 ?_
      refine wx_in0 (N := T) ?_ ?_
      · rcases h with ⟨d', q1, q2, q3⟩ | q
        · have : d = d' := (nI_eq (by omega) (by omega)).mp q2
          subst this
          rw [n2] at q3
          rcases q3 with q3 | q3
          · exact absurd q3 z
          · exact absurd q3 (fun q => nu_nI rfl i1 (by omega) q)
        · exact q
      · exact br_t rfl k
    · refine wx_in0 n3 ?_
      exact br_t rfl k
  · refine wx_isDecl0 n1 ?_
    exact br_t rfl k
theorem wy_param {post : Int32 → SY → Prop} {d i t n : Nat} (hd : d < 6) (hdd : ¬ dd d = 0) (hn : dp d = nI n) (n6 : n ≤ 6) (hi : i < n) (ht : t < T) (hT : T ≤ 16) (k : post 0 (nI T, pR, cH, cP, cD, 0, 0, -1, -1, 0, 0, 0, tk, sa, sb, eq, du, nx, dd, dp, dl, dm, upd pt (d * 6 + i) (nI t), cd, ct, fw st 0 6 (fun _ => 0), yd, yp, ya, yf, fw hel 0 36 (fun _ => -1), mT, mK, mV, ou, eu, ev)) : wpY_param post (nI T, pR, cH, cP, cD, vd, eK, eD, eP, stt, mC, oC, tk, sa, sb, eq, du, nx, dd, dp, dl, dm, pt, cd, ct, st, yd, yp, ya, yf, hel, mT, mK, mV, ou, eu, ev) (nI d) (nI i) (nI t) := by
  have e1 : (nI d).toNatClampNeg = d := nI_clamp (by omega)
  have i1 : vp_in (nI d) 6 := vp_in_nI hd (by decide)
  unfold wpY_param
  refine wy_in1 (N := 6) hd ?_
  refine br_f nu_10 ?_
  refine wy_in1 ht ?_
  refine br_f nu_10 ⟨i1, ?_⟩
  rw [e1, hn]
  refine br_f hdd ⟨i1, ?_⟩
  refine wy_in1 hi ?_
  refine br_f nu_10 ?_
  rw [nu_m6, nI_add, nI_clamp (show d * 6 + i < 2 ^ 31 by omega)]
  exact ⟨vp_in_nI (by omega) (by decide), nm_e (wy_edited k)⟩
theorem wy_param0 {post : Int32 → SY → Prop} {v1 v2 v3 : Int32} (hT : T ≤ 16) (hp : ∀ d, d < 6 → ∃ n, n ≤ 6 ∧ dp d = nI n) (h : (v1 < 0 ∨ nI 6 ≤ v1) ∨ (∃ d, d < 6 ∧ v1 = nI d ∧ (dd d = 0 ∨ (v2 < 0 ∨ dp d ≤ v2))) ∨ (v3 < 0 ∨ nI T ≤ v3)) (k : post (-1) (nI T, pR, cH, cP, cD, vd, eK, eD, eP, stt, mC, oC, tk, sa, sb, eq, du, nx, dd, dp, dl, dm, pt, cd, ct, st, yd, yp, ya, yf, hel, mT, mK, mV, ou, eu, ev)) : wpY_param post (nI T, pR, cH, cP, cD, vd, eK, eD, eP, stt, mC, oC, tk, sa, sb, eq, du, nx, dd, dp, dl, dm, pt, cd, ct, st, yd, yp, ya, yf, hel, mT, mK, mV, ou, eu, ev) v1 v2 v3 := by
  unfold wpY_param
  rcases nu_cs v1 6 (by omega) with ⟨d, d1, rfl⟩ | n1
  · have e1 : (nI d).toNatClampNeg = d := nI_clamp (by omega)
    have h := h.resolve_left (fun q => nu_nI rfl d1 (by omega) q)
    obtain ⟨n, n1, n2⟩ := hp d d1
    refine wy_in1 (N := 6) d1 ?_
    refine br_f nu_10 ?_
    rcases nu_cs v3 T (by omega) with ⟨t, t1, rfl⟩ | n3
    · refine wy_in1 t1 ?_
      refine br_f nu_10 ⟨vp_in_nI d1 (by decide), ?_⟩
      rw [e1]
      have h := h.resolve_right (fun q => nu_nI rfl t1 (by omega) q)
      obtain ⟨d', q1, q2, q3⟩ := h
      have : d = d' := (nI_eq (by omega) (by omega)).mp q2
      subst this
      refine br_c (fun _ => k) (fun z => ⟨vp_in_nI d1 (by decide), ?_⟩)
      refine wy_in0 (N := n) ?_ ?_ n2
      · rw [← n2]; exact q3.resolve_left z
      · exact br_t rfl k
    · refine wy_in0 n3 ?_
      exact br_t rfl k
  · refine wy_in0 (N := 6) n1 ?_
    exact br_t rfl k
theorem zd_param (h : zd T dd dp dl dm pt cO cA cB cC cd cD) {j t : Nat} (ht : t < T) : zd T dd dp dl dm (upd pt j (nI t)) cO cA cB cC cd cD := by
  obtain ⟨z1, z2, z3, z4, z5⟩ := h
  refine ⟨fun i hi => ?_, z2, z3, z4, z5⟩
  by_cases q : i = j
  · rw [q, pk_us]; exact ⟨t, ht, rfl⟩
  · rw [pk_un q]; exact z1 i hi
end PAR
theorem i_vc_param {k : Nat} {u : SX} {v : SY} (I : i_Rel k u v) (hk : k + 5 ≤ 2564) (v1 : Int32) (v2 : Int32) (v3 : Int32) : wpX_param (fun r u' => wpY_param (fun r' v' => r' = r ∧ i_Rel (k + 5) u' v') v v1 v2 v3) u v1 v2 v3 := by
  refine zz_el (R := fun u v => wpX_param (fun r u' => wpY_param (fun r' v' => r' = r ∧ i_Rel (k + 5) u' v') v v1 v2 v3) u v1 v2 v3) ?_ I
  intro T P C Q O K A B L stl cD vd eK eD eP stt tk sa sb gK gA gB cl nC dd dp dl dm pt cO cA cB cC cx cu st pd pp pa pf pv es ew qh qc qk qv ou cm eq du nx cd ct yd yp ya yf hel mT mK mV eu ev hS hT hD hV hR
  have J : i_Rel (k + 5) (nI T, nI P, nI C, nI Q, stl, cD, vd, eK, eD, eP, stt, nI O, tk, sa, sb, gK, gA, gB, cl, nC, dd, dp, dl, dm, pt, cO, cA, cB, cC, cx, cu, st, pd, pp, pa, pf, pv, es, ew, qh, qc, qk, qv, ou, cm) (nI T, nI P, nI C, nI Q, cD, vd, eK, eD, eP, stt, nI L.length, nI O, tk, sa, sb, eq, du, nx, dd, dp, dl, dm, pt, cd, ct, st, yd, yp, ya, yf, hel, mT, mK, mV, ou, eu, ev) := zz_in hS hT hD hV hR
  have T2 := hT.1.2.1
  have no : ((v1 < 0 ∨ nI 6 ≤ v1) ∨ (∃ d, d < 6 ∧ v1 = nI d ∧ (dd d = 0 ∨ (v2 < 0 ∨ dp d ≤ v2))) ∨ (v3 < 0 ∨ nI T ≤ v3)) → wpX_param (fun r u' => wpY_param (fun r' v' => r' = r ∧ i_Rel (k + 5) u' v') (nI T, nI P, nI C, nI Q, cD, vd, eK, eD, eP, stt, nI L.length, nI O, tk, sa, sb, eq, du, nx, dd, dp, dl, dm, pt, cd, ct, st, yd, yp, ya, yf, hel, mT, mK, mV, ou, eu, ev) v1 v2 v3) (nI T, nI P, nI C, nI Q, stl, cD, vd, eK, eD, eP, stt, nI O, tk, sa, sb, gK, gA, gB, cl, nC, dd, dp, dl, dm, pt, cO, cA, cB, cC, cx, cu, st, pd, pp, pa, pf, pv, es, ew, qh, qc, qk, qv, ou, cm) v1 v2 v3 :=
    fun h => wx_param0 T2 hD.2.1 h (wy_param0 T2 hD.2.1 h ⟨rfl, J⟩)
  rcases nu_cs v1 6 (by omega) with ⟨d, d1, rfl⟩ | n1
  · by_cases z : dd d = 0
    · exact no (Or.inr (Or.inl ⟨d, d1, rfl, Or.inl z⟩))
    · obtain ⟨n, n6, hn⟩ := hD.2.1 d d1
      rcases nu_cs v2 n (by omega) with ⟨i, i1, rfl⟩ | n2
      · rcases nu_cs v3 T (by omega) with ⟨t, t1, rfl⟩ | n3
        · exact wx_param d1 z hn n6 i1 t1 T2 hS.2.1 hS.2.2.2.1 (wy_param d1 z hn n6 i1 t1 T2 ⟨rfl, zz_ed hS hT (zd_param hD t1) hV.2.1 hV.2.2 hR.2.1⟩)
        · exact no (Or.inr (Or.inr n3))
      · exact no (Or.inr (Or.inl ⟨d, d1, rfl, Or.inr (by rw [hn]; exact n2)⟩))
  · exact no (Or.inl n1)
end
section
section GET
variable {tY pR cH cP stl cD vd eK eD eP stt oC mC : Int32} {tk sa sb gK gA gB cl nC dd dp dl dm pt cO cA cB cC cx cu st pd pp pa pf pv es ew qh qc qk qv ou cm eq du nx cd ct yd yp ya yf hel mT mK mV eu ev : Nat → Int32}
variable {T P C Q O : Nat} {K A B : Nat → Nat} {L : List MG}
/-! code and definitions read -/
def cfv (cO cA cB cC : Nat → Int32) (j f : Nat) : Int32 := if f = 0 then cO j else if f = 1 then cA j else if f = 2 then cB j else cC j
theorem wx_codeField {post : Int32 → Prop} {d q f n l : Nat} (hd : d < 6) (hdd : ¬ dd d = 0) (D : df T dp dl dm cO cA cB cC d n l) (hq : q < l) (hf : f < 4) (k : post (cfv cO cA cB cC (d * 24 + q) f)) : wpX_codeField post (tY, pR, cH, cP, stl, cD, vd, eK, eD, eP, stt, oC, tk, sa, sb, gK, gA, gB, cl, nC, dd, dp, dl, dm, pt, cO, cA, cB, cC, cx, cu, st, pd, pp, pa, pf, pv, es, ew, qh, qc, qk, qv, ou, cm) (nI d) (nI q) (nI f) := by
  have e1 : (nI d).toNatClampNeg = d := nI_clamp (by omega)
  have l24 := D.2.2.2.1
  have i2 : vp_in (nI (d * 24 + q)) 144 := vp_in_nI (by omega) (by decide)
  have e2 : (nI (d * 24 + q)).toNatClampNeg = d * 24 + q := nI_clamp (by omega)
  unfold wpX_codeField
  refine wx_isDecl hd (fun z => absurd z hdd) (fun _ => ?_)
  refine br_f nu_10 ⟨vp_in_nI hd (by decide), ?_⟩
  rw [e1, D.2.2.1]
  refine wx_in1 hq ?_
  refine br_f nu_10 (nm_r (e' := nI (d * 24 + q)) (by rw [nu_m24, nI_add]) ?_)
  rw [e2]
  unfold cfv at k
  refine br_f (nI_pos (by omega)) (br_f (nI_nlt (a := 3) (by omega) (by omega)) (pk_eq f 0 (fun z => ⟨i2, ?_⟩) (fun z0 => pk_eq f 1 (fun z => ⟨i2, ?_⟩) (fun z1 => pk_eq f 2 (fun z => ⟨i2, ?_⟩) (fun z2 => pk_eq f 3 (fun z => ⟨i2, ?_⟩) (fun z3 => by omega))))))
  · rw [if_pos z] at k; exact k
  · rw [if_neg z0, if_pos z] at k; exact k
  · rw [if_neg z0, if_neg z1, if_pos z] at k; exact k
  · rw [if_neg z0, if_neg z1, if_neg z2] at k; exact k
theorem wx_codeField0 {post : Int32 → Prop} {v1 v2 v3 : Int32} (hD : DA T dd dp dl dm cO cA cB cC) (h : (v1 < 0 ∨ nI 6 ≤ v1) ∨ (∃ d, d < 6 ∧ v1 = nI d ∧ (dd d = 0 ∨ (v2 < 0 ∨ dl d ≤ v2))) ∨ (v3 < 0 ∨ nI 4 ≤ v3)) (k : post (-1)) : wpX_codeField post (tY, pR, cH, cP, stl, cD, vd, eK, eD, eP, stt, oC, tk, sa, sb, gK, gA, gB, cl, nC, dd, dp, dl, dm, pt, cO, cA, cB, cC, cx, cu, st, pd, pp, pa, pf, pv, es, ew, qh, qc, qk, qv, ou, cm) v1 v2 v3 := by
  unfold wpX_codeField
  rcases nu_cs v1 6 (by omega) with ⟨d, d1, rfl⟩ | n1
  · have e1 : (nI d).toNatClampNeg = d := nI_clamp (by omega)
    have h := h.resolve_left (fun q => nu_nI rfl d1 (by omega) q)
    refine wx_isDecl d1 (fun z => br_t rfl k) (fun z => br_f nu_10 ⟨vp_in_nI d1 (by decide), ?_⟩)
    obtain ⟨n, l, D⟩ := hD d d1 z
    have l24 := D.2.2.2.1
    rw [e1, D.2.2.1]
    rcases nu_cs v2 l (by omega) with ⟨i, i1, rfl⟩ | n3
    · refine wx_in1 i1 ?_
      refine br_f nu_10 (nm_e ?_)
      have n3 : v3 < 0 ∨ nI 4 ≤ v3 := by
        rcases h with ⟨d', q1, q2, q3⟩ | q
        · have : d = d' := (nI_eq (by omega) (by omega)).mp q2
          subst this
          rw [D.2.2.1] at q3
          rcases q3 with q3 | q3
          · exact absurd q3 z
          · exact absurd q3 (fun q => nu_nI rfl i1 (by omega) q)
        · exact q
      exact br_c (fun _ => k) (fun y => br_t (nu_hx (N := 4) (by omega) y (n3.resolve_left y)) k)
    · refine wx_in0 n3 ?_
      exact br_t rfl k
  · refine wx_isDecl0 n1 ?_
    exact br_t rfl k
theorem wy_codeField {post : Int32 → Prop} {d q f n l : Nat} (hd : d < 6) (hdd : ¬ dd d = 0) (D : df T dp dl dm cO cA cB cC d n l) (hc : cdA cd cO cA cB cC) (hq : q < l) (hf : f < 4) (k : post (cfv cO cA cB cC (d * 24 + q) f)) : wpY_codeField post (tY, pR, cH, cP, cD, vd, eK, eD, eP, stt, mC, oC, tk, sa, sb, eq, du, nx, dd, dp, dl, dm, pt, cd, ct, st, yd, yp, ya, yf, hel, mT, mK, mV, ou, eu, ev) (nI d) (nI q) (nI f) := by
  have e1 : (nI d).toNatClampNeg = d := nI_clamp (by omega)
  have l24 := D.2.2.2.1
  have i1 : vp_in (nI d) 6 := vp_in_nI hd (by decide)
  unfold wpY_codeField
  refine wy_in1 (N := 6) hd ?_
  refine br_f nu_10 ?_
  refine wy_in1 (N := 4) hf ?_
  refine br_f nu_10 ⟨i1, ?_⟩
  rw [e1, D.2.2.1]
  refine br_f hdd ⟨i1, ?_⟩
  refine wy_in1 hq ?_
  refine br_f nu_10 ?_
  refine wy_at hd (by omega) hf ?_
  obtain ⟨c0, c1, c2, c3⟩ := hc (d * 24 + q) (by omega)
  unfold cfv at k
  by_cases z0 : f = 0
  · rw [if_pos z0, ← c0] at k; rw [z0]; exact k
  · by_cases z1 : f = 1
    · rw [if_neg z0, if_pos z1, ← c1] at k; rw [z1]; exact k
    · by_cases z2 : f = 2
      · rw [if_neg z0, if_neg z1, if_pos z2, ← c2] at k; rw [z2]; exact k
      · rw [if_neg z0, if_neg z1, if_neg z2, ← c3] at k
        rw [show f = 3 by omega]; exact k
theorem wy_codeField0 {post : Int32 → Prop} {v1 v2 v3 : Int32} (hD : DA T dd dp dl dm cO cA cB cC) (h : (v1 < 0 ∨ nI 6 ≤ v1) ∨ (∃ d, d < 6 ∧ v1 = nI d ∧ (dd d = 0 ∨ (v2 < 0 ∨ dl d ≤ v2))) ∨ (v3 < 0 ∨ nI 4 ≤ v3)) (k : post (-1)) : wpY_codeField post (tY, pR, cH, cP, cD, vd, eK, eD, eP, stt, mC, oC, tk, sa, sb, eq, du, nx, dd, dp, dl, dm, pt, cd, ct, st, yd, yp, ya, yf, hel, mT, mK, mV, ou, eu, ev) v1 v2 v3 := by
  unfold wpY_codeField
  rcases nu_cs v1 6 (by omega) with ⟨d, d1, rfl⟩ | n1
  · have e1 : (nI d).toNatClampNeg = d := nI_clamp (by omega)
    have h := h.resolve_left (fun q => nu_nI rfl d1 (by omega) q)
    refine wy_in1 (N := 6) d1 ?_
    refine br_f nu_10 ?_
    rcases nu_cs v3 4 (by omega) with ⟨t, t1, rfl⟩ | n3
    · refine wy_in1 (N := 4) t1 ?_
      refine br_f nu_10 ⟨vp_in_nI d1 (by decide), ?_⟩
      rw [e1]
      have h := h.resolve_right (fun q => nu_nI rfl t1 (by omega) q)
      obtain ⟨d', q1, q2, q3⟩ := h
      have : d = d' := (nI_eq (by omega) (by omega)).mp q2
      subst this
      refine br_c (fun _ => k) (fun z => ⟨vp_in_nI d1 (by decide), ?_⟩)
      obtain ⟨n, l, D⟩ := hD d d1 z
      refine wy_in0 (N := l) ?_ ?_ D.2.2.1
      · rw [← D.2.2.1]; exact q3.resolve_left z
      · exact br_t rfl k
    · refine wy_in0 (N := 4) n3 ?_
      exact br_t rfl k
  · refine wy_in0 (N := 6) n1 ?_
    exact br_t rfl k
end GET
theorem i_vc_codeField {k : Nat} {u : SX} {v : SY} (I : i_Rel k u v) (hk : k + 5 ≤ 2564) (v1 : Int32) (v2 : Int32) (v3 : Int32) : wpX_codeField (fun r => wpY_codeField (fun r' => r' = r ∧ i_Rel (k + 5) u v) v v1 v2 v3) u v1 v2 v3 := by
  refine zz_el (R := fun u v => wpX_codeField (fun r => wpY_codeField (fun r' => r' = r ∧ i_Rel (k + 5) u v) v v1 v2 v3) u v1 v2 v3) ?_ I
  intro T P C Q O K A B L stl cD vd eK eD eP stt tk sa sb gK gA gB cl nC dd dp dl dm pt cO cA cB cC cx cu st pd pp pa pf pv es ew qh qc qk qv ou cm eq du nx cd ct yd yp ya yf hel mT mK mV eu ev hS hT hD hV hR
  have J : i_Rel (k + 5) (nI T, nI P, nI C, nI Q, stl, cD, vd, eK, eD, eP, stt, nI O, tk, sa, sb, gK, gA, gB, cl, nC, dd, dp, dl, dm, pt, cO, cA, cB, cC, cx, cu, st, pd, pp, pa, pf, pv, es, ew, qh, qc, qk, qv, ou, cm) (nI T, nI P, nI C, nI Q, cD, vd, eK, eD, eP, stt, nI L.length, nI O, tk, sa, sb, eq, du, nx, dd, dp, dl, dm, pt, cd, ct, st, yd, yp, ya, yf, hel, mT, mK, mV, ou, eu, ev) := zz_in hS hT hD hV hR
  have no : ((v1 < 0 ∨ nI 6 ≤ v1) ∨ (∃ d, d < 6 ∧ v1 = nI d ∧ (dd d = 0 ∨ (v2 < 0 ∨ dl d ≤ v2))) ∨ (v3 < 0 ∨ nI 4 ≤ v3)) → wpX_codeField (fun r => wpY_codeField (fun r' => r' = r ∧ i_Rel (k + 5) (nI T, nI P, nI C, nI Q, stl, cD, vd, eK, eD, eP, stt, nI O, tk, sa, sb, gK, gA, gB, cl, nC, dd, dp, dl, dm, pt, cO, cA, cB, cC, cx, cu, st, pd, pp, pa, pf, pv, es, ew, qh, qc, qk, qv, ou, cm) (nI T, nI P, nI C, nI Q, cD, vd, eK, eD, eP, stt, nI L.length, nI O, tk, sa, sb, eq, du, nx, dd, dp, dl, dm, pt, cd, ct, st, yd, yp, ya, yf, hel, mT, mK, mV, ou, eu, ev)) (nI T, nI P, nI C, nI Q, cD, vd, eK, eD, eP, stt, nI L.length, nI O, tk, sa, sb, eq, du, nx, dd, dp, dl, dm, pt, cd, ct, st, yd, yp, ya, yf, hel, mT, mK, mV, ou, eu, ev) v1 v2 v3) (nI T, nI P, nI C, nI Q, stl, cD, vd, eK, eD, eP, stt, nI O, tk, sa, sb, gK, gA, gB, cl, nC, dd, dp, dl, dm, pt, cO, cA, cB, cC, cx, cu, st, pd, pp, pa, pf, pv, es, ew, qh, qc, qk, qv, ou, cm) v1 v2 v3 :=
    fun h => wx_codeField0 hD.2.2.1 h (wy_codeField0 hD.2.2.1 h ⟨rfl, J⟩)
  rcases nu_cs v1 6 (by omega) with ⟨d, d1, rfl⟩ | n1
  · by_cases z : dd d = 0
    · exact no (Or.inr (Or.inl ⟨d, d1, rfl, Or.inl z⟩))
    · obtain ⟨n, l, D⟩ := hD.2.2.1 d d1 z
      have l24 := D.2.2.2.1
      rcases nu_cs v2 l (by omega) with ⟨i, i1, rfl⟩ | n2
      · rcases nu_cs v3 4 (by omega) with ⟨t, t1, rfl⟩ | n3
        · exact wx_codeField d1 z D i1 t1 (wy_codeField d1 z D hD.2.2.2.1 i1 t1 ⟨rfl, J⟩)
        · exact no (Or.inr (Or.inr n3))
      · exact no (Or.inr (Or.inl ⟨d, d1, rfl, Or.inr (by rw [D.2.2.1]; exact n2)⟩))
  · exact no (Or.inl n1)
section GT2
variable {tY pR cH cP stl cD vd eK eD eP stt oC mC : Int32} {tk sa sb gK gA gB cl nC dd dp dl dm pt cO cA cB cC cx cu st pd pp pa pf pv es ew qh qc qk qv ou cm eq du nx cd ct yd yp ya yf hel mT mK mV eu ev : Nat → Int32}
variable {T P C Q O : Nat} {K A B : Nat → Nat} {L : List MG}
noncomputable def div_ (dd dp dl dm pt : Nat → Int32) (d : Nat) (f : Int32) : Int32 := if f = 0 then (if dd d = 0 then 0 else 1) else if dd d = 0 then -1 else if f = 1 then dp d else if f = 2 then dl d else if f = 3 then dm d else if f < 4 then -1 else if dp d + 4 ≤ f then -1 else pt (d * 6 + f.toNatClampNeg - 4)
theorem nu_p4 {n : Nat} {x : Int32} (hn : n ≤ 6) (hx : x = nI n) : 3 + x = nI (n + 3) ∧ 4 + x = nI (n + 4) ∧ x + 4 = nI (n + 4) := by
  rw [hx]
  refine ⟨?_, ?_, ?_⟩
  · have : (3 : Int32) + nI n = nI (3 + n) := nI_add 3 n
    rw [this, Nat.add_comm]
  · have : (4 : Int32) + nI n = nI (4 + n) := nI_add 4 n
    rw [this, Nat.add_comm]
  · exact nI_add n 4
theorem wx_defInfo {post : Int32 → Prop} {d : Nat} {f : Int32} (hd : d < 6) (hp : ∀ d, d < 6 → ∃ n, n ≤ 6 ∧ dp d = nI n) (k : post (div_ dd dp dl dm pt d f)) : wpX_defInfo post (tY, pR, cH, cP, stl, cD, vd, eK, eD, eP, stt, oC, tk, sa, sb, gK, gA, gB, cl, nC, dd, dp, dl, dm, pt, cO, cA, cB, cC, cx, cu, st, pd, pp, pa, pf, pv, es, ew, qh, qc, qk, qv, ou, cm) (nI d) f := by
  have e1 : (nI d).toNatClampNeg = d := nI_clamp (by omega)
  have i1 : vp_in (nI d) 6 := vp_in_nI hd (by decide)
  obtain ⟨n, n6, hn⟩ := hp d hd
  obtain ⟨p3, p4, p5⟩ := nu_p4 n6 hn
  unfold wpX_defInfo
  refine wx_in1 (N := 6) hd ?_
  refine br_f nu_10 ?_
  rw [e1]
  unfold div_ at k
  refine br_c (fun z => ⟨i1, br_c (fun y => ?_) (fun y => ?_)⟩) (fun z => ⟨i1, br_c (fun y => ?_) (fun y => br_c (fun x => ⟨i1, ?_⟩) (fun x1 => br_c (fun x => ⟨i1, ?_⟩) (fun x2 => br_c (fun x => ⟨i1, ?_⟩) (fun x3 => ⟨i1, ?_⟩))))⟩)
  · rw [if_pos z, if_pos y] at k; exact k
  · rw [if_pos z, if_neg y] at k; exact k
  · rw [if_neg z, if_pos y] at k; exact k
  · rw [if_neg z, if_neg y, if_pos x] at k; exact k
  · rw [if_neg z, if_neg y, if_neg x1, if_pos x] at k; exact k
  · rw [if_neg z, if_neg y, if_neg x1, if_neg x2, if_pos x] at k; exact k
  · rw [if_neg z, if_neg y, if_neg x1, if_neg x2, if_neg x3, p5] at k
    unfold wpX_inside
    dsimp only
    rw [p3]
    by_cases l4 : f < 4
    · rw [if_pos l4] at k
      exact br_t l4 (br_t rfl k)
    · rw [if_neg l4] at k
      have f0 : ¬ f < 0 := fun q => l4 (Int32.lt_trans q (by decide))
      obtain ⟨j, j1, rfl⟩ := nI_of f0
      have j4 : 4 ≤ j := by
        rcases Nat.lt_or_ge j 4 with l | l
        · exact absurd (nI_lt (b := 4) l (by omega)) l4
        · exact l
      rw [nI_clamp j1] at k
      refine br_f l4 (pk_lt (n + 3) j (fun q => ?_) (fun q => br_f nu_10 ?_))
      · rw [if_pos (nI_le (by omega) (by omega))] at k
        exact br_t rfl k
      · rw [if_neg (nI_ge (by omega) (by omega))] at k
        have e3 : nI d * 6 + nI j - 4 = nI (d * 6 + j - 4) := by
          rw [nu_m6, nI_add]; exact pk_sub (b := 4) (by omega)
        rw [e3, nI_clamp (show d * 6 + j - 4 < 2 ^ 31 by omega)]
        exact ⟨vp_in_nI (by omega) (by decide), k⟩
theorem wy_defInfo {post : Int32 → Prop} {d : Nat} {f : Int32} (hd : d < 6) (hp : ∀ d, d < 6 → ∃ n, n ≤ 6 ∧ dp d = nI n) (k : post (div_ dd dp dl dm pt d f)) : wpY_defInfo post (tY, pR, cH, cP, cD, vd, eK, eD, eP, stt, mC, oC, tk, sa, sb, eq, du, nx, dd, dp, dl, dm, pt, cd, ct, st, yd, yp, ya, yf, hel, mT, mK, mV, ou, eu, ev) (nI d) f := by
  have e1 : (nI d).toNatClampNeg = d := nI_clamp (by omega)
  have i1 : vp_in (nI d) 6 := vp_in_nI hd (by decide)
  obtain ⟨n, n6, hn⟩ := hp d hd
  obtain ⟨p3, p4, p5⟩ := nu_p4 n6 hn
  unfold wpY_defInfo
  refine wy_in1 (N := 6) hd ?_
  refine br_f nu_10 ?_
  rw [e1]
  unfold div_ at k
  refine br_c (fun z => ⟨i1, br_c (fun y => ?_) (fun y => ?_)⟩) (fun z => ⟨i1, br_c (fun y => ?_) (fun y => ?_)⟩)
  · rw [if_pos z, if_pos y] at k; exact k
  · rw [if_pos z, if_neg y] at k; exact k
  · rw [if_neg z, if_pos y] at k; exact k
  · rw [if_neg z, if_neg y] at k
    have t73 : post (if f = 1 then dp d else if f = 2 then dl d else if f = 3 then dm d else -1) → wY_defInfo_73 post (nI d) f tY pR cH cP cD vd eK eD eP stt mC oC tk sa sb eq du nx dd dp dl dm pt cd ct st yd yp ya yf hel mT mK mV ou eu ev := fun k => by
      unfold wY_defInfo_73
      rw [e1]
      refine br_c (fun x => ⟨i1, ?_⟩) (fun x1 => br_c (fun x => ⟨i1, ?_⟩) (fun x2 => br_c (fun x => ⟨i1, ?_⟩) (fun x3 => ?_)))
      · rw [if_pos x] at k; exact k
      · rw [if_neg x1, if_pos x] at k; exact k
      · rw [if_neg x1, if_neg x2, if_pos x] at k; exact k
      · rw [if_neg x1, if_neg x2, if_neg x3] at k; exact k
    by_cases l4 : f < 4
    · refine br_t l4 (t73 ?_)
      rw [if_pos l4] at k; exact k
    · have f0 : ¬ f < 0 := fun q => l4 (Int32.lt_trans q (by decide))
      obtain ⟨j, j1, rfl⟩ := nI_of f0
      have j4 : 4 ≤ j := by
        rcases Nat.lt_or_ge j 4 with l | l
        · exact absurd (nI_lt (b := 4) l (by omega)) l4
        · exact l
      have x1 : ¬ nI j = 1 := fun q => by have := (nI_eq (b := 1) j1 (by omega)).mp q; omega
      have x2 : ¬ nI j = 2 := fun q => by have := (nI_eq (b := 2) j1 (by omega)).mp q; omega
      have x3 : ¬ nI j = 3 := fun q => by have := (nI_eq (b := 3) j1 (by omega)).mp q; omega
      rw [if_neg x1, if_neg x2, if_neg x3, if_neg l4, p5, nI_clamp j1] at k
      refine br_f l4 ⟨i1, ?_⟩
      rw [p4]
      refine pk_le (n + 4) j (fun q => t73 ?_) (fun q => ?_)
      · rw [if_pos (nI_le (by omega) (by omega))] at k
        rw [if_neg x1, if_neg x2, if_neg x3]; exact k
      · rw [if_neg (nI_ge (by omega) (by omega))] at k
        have e3 : nI d * 6 + nI j - 4 = nI (d * 6 + j - 4) := by
          rw [nu_m6, nI_add]; exact pk_sub (b := 4) (by omega)
        rw [e3, nI_clamp (show d * 6 + j - 4 < 2 ^ 31 by omega)]
        exact ⟨vp_in_nI (by omega) (by decide), k⟩
end GT2
theorem i_vc_defInfo {k : Nat} {u : SX} {v : SY} (I : i_Rel k u v) (hk : k + 5 ≤ 2564) (v1 : Int32) (v2 : Int32) : wpX_defInfo (fun r => wpY_defInfo (fun r' => r' = r ∧ i_Rel (k + 5) u v) v v1 v2) u v1 v2 := by
  refine zz_el (R := fun u v => wpX_defInfo (fun r => wpY_defInfo (fun r' => r' = r ∧ i_Rel (k + 5) u v) v v1 v2) u v1 v2) ?_ I
  intro T P C Q O K A B L stl cD vd eK eD eP stt tk sa sb gK gA gB cl nC dd dp dl dm pt cO cA cB cC cx cu st pd pp pa pf pv es ew qh qc qk qv ou cm eq du nx cd ct yd yp ya yf hel mT mK mV eu ev hS hT hD hV hR
  have J : i_Rel (k + 5) (nI T, nI P, nI C, nI Q, stl, cD, vd, eK, eD, eP, stt, nI O, tk, sa, sb, gK, gA, gB, cl, nC, dd, dp, dl, dm, pt, cO, cA, cB, cC, cx, cu, st, pd, pp, pa, pf, pv, es, ew, qh, qc, qk, qv, ou, cm) (nI T, nI P, nI C, nI Q, cD, vd, eK, eD, eP, stt, nI L.length, nI O, tk, sa, sb, eq, du, nx, dd, dp, dl, dm, pt, cd, ct, st, yd, yp, ya, yf, hel, mT, mK, mV, ou, eu, ev) := zz_in hS hT hD hV hR
  rcases nu_cs v1 6 (by omega) with ⟨d, d1, rfl⟩ | n1
  · exact wx_defInfo d1 hD.2.1 (wy_defInfo d1 hD.2.1 ⟨rfl, J⟩)
  · unfold wpX_defInfo
    refine wx_in0 (N := 6) n1 ?_
    refine br_t rfl ?_
    unfold wpY_defInfo
    refine wy_in0 (N := 6) n1 ?_
    exact br_t rfl ⟨rfl, J⟩
theorem i_vc_info {k : Nat} {u : SX} {v : SY} (I : i_Rel k u v) (hk : k + 5 ≤ 2564) (v1 : Int32) : wpX_info (fun r => wpY_info (fun r' => r' = r ∧ i_Rel (k + 5) u v) v v1) u v1 := by
  refine zz_el (R := fun u v => wpX_info (fun r => wpY_info (fun r' => r' = r ∧ i_Rel (k + 5) u v) v v1) u v1) ?_ I
  intro T P C Q O K A B L stl cD vd eK eD eP stt tk sa sb gK gA gB cl nC dd dp dl dm pt cO cA cB cC cx cu st pd pp pa pf pv es ew qh qc qk qv ou cm eq du nx cd ct yd yp ya yf hel mT mK mV eu ev hS hT hD hV hR
  have J : i_Rel (k + 5) (nI T, nI P, nI C, nI Q, stl, cD, vd, eK, eD, eP, stt, nI O, tk, sa, sb, gK, gA, gB, cl, nC, dd, dp, dl, dm, pt, cO, cA, cB, cC, cx, cu, st, pd, pp, pa, pf, pv, es, ew, qh, qc, qk, qv, ou, cm) (nI T, nI P, nI C, nI Q, cD, vd, eK, eD, eP, stt, nI L.length, nI O, tk, sa, sb, eq, du, nx, dd, dp, dl, dm, pt, cd, ct, st, yd, yp, ya, yf, hel, mT, mK, mV, ou, eu, ev) := zz_in hS hT hD hV hR
  rcases nu_cs v1 10 (by omega) with ⟨f, f1, rfl⟩ | n1
  · refine br_f (nI_pos (by omega)) (br_f (nI_nlt (a := 9) (by omega) (by omega)) ?_)
    refine pk_eq f 0 (fun z => ?_) (fun z0 => ?_)
    · subst z; exact br_f (by decide) (br_t rfl ⟨rfl, J⟩)
    refine pk_eq f 1 (fun z => ?_) (fun z1 => ?_)
    · subst z; exact br_f (by decide) (br_f (by decide) (br_t rfl ⟨rfl, J⟩))
    refine pk_eq f 2 (fun z => ?_) (fun z2 => ?_)
    · subst z; exact br_f (by decide) (br_f (by decide) (br_f (by decide) (br_t rfl ⟨rfl, J⟩)))
    refine pk_eq f 3 (fun z => ?_) (fun z3 => ?_)
    · subst z; exact br_f (by decide) (br_f (by decide) (br_f (by decide) (br_f (by decide) (br_t rfl ⟨rfl, J⟩))))
    refine pk_eq f 4 (fun z => ?_) (fun z4 => ?_)
    · subst z; exact br_f (by decide) (br_f (by decide) (br_f (by decide) (br_f (by decide) (br_f (by decide) (br_t rfl ⟨rfl, J⟩)))))
    refine pk_eq f 5 (fun z => ?_) (fun z5 => ?_)
    · subst z; exact br_t (by decide) (br_t rfl ⟨rfl, J⟩)
    refine pk_eq f 6 (fun z => ?_) (fun z6 => ?_)
    · subst z; exact br_t (by decide) (br_f (by decide) (br_t rfl ⟨rfl, J⟩))
    refine pk_eq f 7 (fun z => ?_) (fun z7 => ?_)
    · subst z; exact br_t (by decide) (br_f (by decide) (br_f (by decide) (br_t rfl ⟨rfl, J⟩)))
    refine pk_eq f 8 (fun z => ?_) (fun z8 => ?_)
    · subst z; exact br_t (by decide) (br_f (by decide) (br_f (by decide) (br_f (by decide) (br_t rfl ⟨rfl, J⟩))))
    refine pk_eq f 9 (fun z => ?_) (fun z9 => ?_)
    · subst z; exact br_t (by decide) (br_f (by decide) (br_f (by decide) (br_f (by decide) (br_f (by decide) (br_t rfl ⟨rfl, J⟩)))))
    omega
  · have e : ∀ j : Nat, j < 10 → ¬ v1 = nI j := fun j hj q => nu_nI q hj (by omega) n1
    have Y : wpY_info (fun r' => r' = -1 ∧ i_Rel (k + 5) (nI T, nI P, nI C, nI Q, stl, cD, vd, eK, eD, eP, stt, nI O, tk, sa, sb, gK, gA, gB, cl, nC, dd, dp, dl, dm, pt, cO, cA, cB, cC, cx, cu, st, pd, pp, pa, pf, pv, es, ew, qh, qc, qk, qv, ou, cm) (nI T, nI P, nI C, nI Q, cD, vd, eK, eD, eP, stt, nI L.length, nI O, tk, sa, sb, eq, du, nx, dd, dp, dl, dm, pt, cd, ct, st, yd, yp, ya, yf, hel, mT, mK, mV, ou, eu, ev)) (nI T, nI P, nI C, nI Q, cD, vd, eK, eD, eP, stt, nI L.length, nI O, tk, sa, sb, eq, du, nx, dd, dp, dl, dm, pt, cd, ct, st, yd, yp, ya, yf, hel, mT, mK, mV, ou, eu, ev) v1 :=
      br_c (fun _ => br_f (e 5 (by omega)) (br_f (e 6 (by omega)) (br_f (e 7 (by omega)) (br_f (e 8 (by omega)) (br_f (e 9 (by omega)) ⟨rfl, J⟩)))))
        (fun _ => br_f (e 0 (by omega)) (br_f (e 1 (by omega)) (br_f (e 2 (by omega)) (br_f (e 3 (by omega)) (br_f (e 4 (by omega)) ⟨rfl, J⟩)))))
    exact br_c (fun _ => Y) (fun z => br_t (nu_hx (N := 10) (by omega) z (n1.resolve_left z)) Y)
end
section
section ADD
variable {tY pR cH cP stl cD vd eK eD eP stt oC mC : Int32} {tk sa sb gK gA gB cl nC dd dp dl dm pt cO cA cB cC cx cu st pd pp pa pf pv es ew qh qc qk qv ou cm eq du nx cd ct yd yp ya yf hel mT mK mV eu ev : Nat → Int32}
variable {T P C Q O : Nat} {K A B : Nat → Nat} {L : List MG}
/-! an instruction added -/
def in6 (x : Int32) : Prop := ∃ a, a < 6 ∧ x = nI a
def okA (o : Nat) (x : Int32) : Prop := (o = 1 → in6 x) ∧ (6 ≤ o → in6 x)
def okB (o : Nat) (y : Int32) : Prop := ((o = 8 ∨ o = 9 ∨ o = 14) → in6 y) ∧ (o = 10 → ∃ b, b < 2 ∧ y = nI b) ∧ (o = 13 → in6 y)
def okC (T o : Nat) (z : Int32) : Prop := (o = 13 → ∃ m, m < 64 ∧ z = nI m) ∧ (o = 14 → ∃ t, t < T ∧ z = nI t)
def ak (o : Nat) (x : Int32) : Int32 := if o = 0 ∨ o = 4 ∨ o = 5 then 0 else x
def bk (o : Nat) (y : Int32) : Int32 := if o = 8 ∨ o = 9 ∨ o = 10 ∨ o = 13 ∨ o = 14 then y else 0
def ck (o : Nat) (z : Int32) : Int32 := if o = 13 ∨ o = 14 then z else 0
theorem ok_co {o : Nat} {x y z : Int32} (ho : o < 15) (a : okA o x) (b : okB o y) (c : okC T o z) : co_ok T o (ak o x) (bk o y) (ck o z) := by
  refine ⟨ho, fun h => ?_, fun h => ?_, fun h => ?_, fun h => ?_, fun h => ⟨?_, ?_⟩, fun h => ?_⟩
  · unfold ak; rw [if_neg (by omega)]; exact a.1 h
  · unfold ak; rw [if_neg (by omega)]; exact a.2 h
  · unfold bk; rw [if_pos (by omega)]; exact b.1 h
  · unfold bk; rw [if_pos (by omega)]
    obtain ⟨j, j1, j2⟩ := b.2.1 h
    rcases (by omega : j = 0 ∨ j = 1) with q | q
    · left; rw [j2, q]; rfl
    · right; rw [j2, q]; rfl
  · unfold bk; rw [if_pos (by omega)]; exact b.2.2 h
  · unfold ck; rw [if_pos (by omega)]; exact c.1 h
  · unfold ck; rw [if_pos (by omega)]; exact c.2 h
section xs
variable {post : Int32 → Prop}
theorem wx_i6 {x : Int32} {N : Nat} {hi : Int32} (hN : N < 2 ^ 31) (hh : hi = nI N - 1) (k1 : (∃ a, a < N ∧ x = nI a) → post 1) (k0 : (¬ ∃ a, a < N ∧ x = nI a) → post 0) : wpX_inside (fun r => narrow .boolean (.int r) = .int r ∧ post r) (tY, pR, cH, cP, stl, cD, vd, eK, eD, eP, stt, oC, tk, sa, sb, gK, gA, gB, cl, nC, dd, dp, dl, dm, pt, cO, cA, cB, cC, cx, cu, st, pd, pp, pa, pf, pv, es, ew, qh, qc, qk, qv, ou, cm) x 0 hi := by
  rcases nu_cs x N hN with ⟨a, a1, rfl⟩ | n
  · refine wx_in1 a1 ?_ hN hh
    exact ⟨nu_nb (Or.inr rfl), k1 ⟨a, a1, rfl⟩⟩
  · refine wx_in0 n ?_ hN hh
    exact ⟨nu_nb (Or.inl rfl), k0 (fun ⟨a, a1, a2⟩ => nu_nI a2 a1 hN n)⟩
theorem wx_usesA {o : Nat} (ho : o < 15) (k : post (if o = 0 ∨ o = 4 ∨ o = 5 then 0 else 1)) : wpX_usesA post (tY, pR, cH, cP, stl, cD, vd, eK, eD, eP, stt, oC, tk, sa, sb, gK, gA, gB, cl, nC, dd, dp, dl, dm, pt, cO, cA, cB, cC, cx, cu, st, pd, pp, pa, pf, pv, es, ew, qh, qc, qk, qv, ou, cm) (nI o) := by
  refine pk_eq o 0 (fun h => ?_) (fun h0 => pk_eq o 4 (fun h => ?_) (fun h4 => pk_eq o 5 (fun h => ?_) (fun h5 => ?_)))
  · rw [if_pos (by omega)] at k; exact k
  · rw [if_pos (by omega)] at k; exact k
  · rw [if_pos (by omega)] at k; exact k
  · rw [if_neg (by omega)] at k; exact k
theorem wx_usesB {o : Nat} (ho : o < 15) (k : post (if o = 8 ∨ o = 9 ∨ o = 10 ∨ o = 13 ∨ o = 14 then 1 else 0)) : wpX_usesB post (tY, pR, cH, cP, stl, cD, vd, eK, eD, eP, stt, oC, tk, sa, sb, gK, gA, gB, cl, nC, dd, dp, dl, dm, pt, cO, cA, cB, cC, cx, cu, st, pd, pp, pa, pf, pv, es, ew, qh, qc, qk, qv, ou, cm) (nI o) := by
  refine pk_eq o 8 (fun h => ?_) (fun h0 => pk_eq o 9 (fun h => ?_) (fun h4 => pk_eq o 10 (fun h => ?_) (fun h5 => pk_eq o 13 (fun h => ?_) (fun h6 => pk_eq o 14 (fun h => ?_) (fun h7 => ?_)))))
  · rw [if_pos (by omega)] at k; exact k
  · rw [if_pos (by omega)] at k; exact k
  · rw [if_pos (by omega)] at k; exact k
  · rw [if_pos (by omega)] at k; exact k
  · rw [if_pos (by omega)] at k; exact k
  · rw [if_neg (by omega)] at k; exact k
theorem wx_usesC {o : Nat} (ho : o < 15) (k : post (if o = 13 ∨ o = 14 then 1 else 0)) : wpX_usesC post (tY, pR, cH, cP, stl, cD, vd, eK, eD, eP, stt, oC, tk, sa, sb, gK, gA, gB, cl, nC, dd, dp, dl, dm, pt, cO, cA, cB, cC, cx, cu, st, pd, pp, pa, pf, pv, es, ew, qh, qc, qk, qv, ou, cm) (nI o) := by
  refine pk_eq o 13 (fun h => ?_) (fun h0 => pk_eq o 14 (fun h => ?_) (fun h4 => ?_))
  · rw [if_pos (by omega)] at k; exact k
  · rw [if_pos (by omega)] at k; exact k
  · rw [if_neg (by omega)] at k; exact k
theorem wx_fitsA {o : Nat} {x : Int32} (ho : o < 15) (k1 : okA o x → post 1) (k0 : ¬ okA o x → post 0) : wpX_fitsA post (tY, pR, cH, cP, stl, cD, vd, eK, eD, eP, stt, oC, tk, sa, sb, gK, gA, gB, cl, nC, dd, dp, dl, dm, pt, cO, cA, cB, cC, cx, cu, st, pd, pp, pa, pf, pv, es, ew, qh, qc, qk, qv, ou, cm) (nI o) x := by
  unfold wpX_fitsA
  refine wx_usesA ho ?_
  by_cases z : o = 0 ∨ o = 4 ∨ o = 5
  · rw [if_pos z]
    exact br_t rfl (k1 ⟨fun h => by omega, fun h => by omega⟩)
  · rw [if_neg z]
    refine br_f nu_10 (pk_eq o 2 (fun h => k1 ⟨fun h => by omega, fun h => by omega⟩) (fun h2 => pk_eq o 3 (fun h => k1 ⟨fun h => by omega, fun h => by omega⟩) (fun h3 => pk_eq o 1 (fun h => ?_) (fun h1 => ?_))))
    · exact wx_i6 (N := 6) (by omega) (by decide) (fun q => k1 ⟨fun _ => q, fun p => by omega⟩) (fun q => k0 (fun p => q (p.1 h)))
    · exact wx_i6 (N := 6) (by omega) (by decide) (fun q => k1 ⟨fun _ => q, fun p => q⟩) (fun q => k0 (fun p => q (p.2 (by omega))))
theorem wx_fitsB {o : Nat} {x : Int32} (ho : o < 15) (k1 : okB o x → post 1) (k0 : ¬ okB o x → post 0) : wpX_fitsB post (tY, pR, cH, cP, stl, cD, vd, eK, eD, eP, stt, oC, tk, sa, sb, gK, gA, gB, cl, nC, dd, dp, dl, dm, pt, cO, cA, cB, cC, cx, cu, st, pd, pp, pa, pf, pv, es, ew, qh, qc, qk, qv, ou, cm) (nI o) x := by
  unfold wpX_fitsB
  refine wx_usesB ho ?_
  by_cases z : o = 8 ∨ o = 9 ∨ o = 10 ∨ o = 13 ∨ o = 14
  · rw [if_pos z]
    refine br_f nu_10 (pk_eq o 10 (fun h => ?_) (fun h10 => pk_eq o 13 (fun h => ?_) (fun h13 => ?_)))
    · exact wx_i6 (N := 2) (by omega) (by decide) (fun q => k1 ⟨fun p => by omega, fun _ => q, fun p => by omega⟩) (fun q => k0 (fun p => q (p.2.1 h)))
    · exact wx_i6 (N := 6) (by omega) (by decide) (fun q => k1 ⟨fun p => by omega, fun p => by omega, fun p => q⟩) (fun q => k0 (fun p => q (p.2.2 h)))
    · exact wx_i6 (N := 6) (by omega) (by decide) (fun q => k1 ⟨fun p => q, fun p => by omega, fun p => q⟩) (fun q => k0 (fun p => q (p.1 (by omega))))
  · rw [if_neg z]
    exact br_t rfl (k1 ⟨fun h => by omega, fun h => by omega, fun h => by omega⟩)
theorem wx_fitsC {o : Nat} {x : Int32} (ho : o < 15) (hT : T ≤ 16) (k1 : okC T o x → post 1) (k0 : ¬ okC T o x → post 0) : wpX_fitsC post (nI T, pR, cH, cP, stl, cD, vd, eK, eD, eP, stt, oC, tk, sa, sb, gK, gA, gB, cl, nC, dd, dp, dl, dm, pt, cO, cA, cB, cC, cx, cu, st, pd, pp, pa, pf, pv, es, ew, qh, qc, qk, qv, ou, cm) (nI o) x := by
  unfold wpX_fitsC
  refine pk_eq o 13 (fun h => ?_) (fun h13 => pk_eq o 14 (fun h => ?_) (fun h14 => ?_))
  · exact wx_i6 (N := 64) (by omega) (by decide) (fun q => k1 ⟨fun p => q, fun p => by omega⟩) (fun q => k0 (fun p => q (p.1 h)))
  · exact wx_i6 (N := T) (by omega) rfl (fun q => k1 ⟨fun p => by omega, fun p => q⟩) (fun q => k0 (fun p => q (p.2 h)))
  · exact k1 ⟨fun p => by omega, fun p => by omega⟩
end xs
/-- the instruction is taken: at (d, l), M pending -/
def ag (T : Nat) (dd dp dl dm cO cA cB cC : Nat → Int32) (cD v1 x y z : Int32) (d n l o : Nat) : Prop := d < 6 ∧ cD = nI d ∧ ¬ dd d = 0 ∧ df T dp dl dm cO cA cB cC d n l ∧ ¬ dm d = 0 ∧ l < 24 ∧ o < 15 ∧ v1 = nI o ∧ okA o x ∧ okB o y ∧ okC T o z
theorem wx_add {post : Int32 → SX → Prop} {v1 x y z : Int32} {d n l o M : Nat} (hT : T ≤ 16) (hP : P ≤ 6) (hC : C ≤ 8) (G : ag T dd dp dl dm cO cA cB cC cD v1 x y z d n l o) (hM : M = tm_M (dop cO d) l)
    (k : post 0 (nI T, nI P, nI C, cP, stl, cD, 0, 0, -1, -1, 0, 0, tk, sa, sb, gK, gA, gB, cl, nC, dd, dp, upd dl d (nI (l + 1)), upd dm d (nI (tm_g o M)), pt, upd cO (d * 24 + l) (nI o), upd cA (d * 24 + l) (ak o x), upd cB (d * 24 + l) (bk o y), upd cC (d * 24 + l) (ck o z), cx, cu, fw st 0 P (fun _ => 0), fw pd 0 P (fun _ => 0), fw pp 0 P (fun _ => 0), fw pa 0 P (fun _ => 0), fw pf 0 P (fun _ => 0), fw pv 0 (P * 6) (fun _ => -1), fw es 0 (2 * C) (fun _ => 0), fw ew 0 (2 * C) (fun _ => -1), fw qh 0 (2 * C) (fun _ => 0), fw qc 0 (2 * C) (fun _ => 0), qk, qv, ou, cm)) : wpX_add post (nI T, nI P, nI C, cP, stl, cD, vd, eK, eD, eP, stt, oC, tk, sa, sb, gK, gA, gB, cl, nC, dd, dp, dl, dm, pt, cO, cA, cB, cC, cx, cu, st, pd, pp, pa, pf, pv, es, ew, qh, qc, qk, qv, ou, cm) v1 x y z := by
  obtain ⟨hd, rfl, hdd, D, hm, hl, ho, rfl, a, b, c⟩ := G
  have e1 : (nI d).toNatClampNeg = d := nI_clamp (by omega)
  have i1 : vp_in (nI d) 6 := vp_in_nI hd (by decide)
  have i2 : vp_in (nI (d * 24 + l)) 144 := vp_in_nI (by omega) (by decide)
  have e2 : (nI (d * 24 + l)).toNatClampNeg = d * 24 + l := nI_clamp (by omega)
  have hdm : dm d = nI M := by rw [hM]; exact D.2.2.2.2.1
  have M24 : M ≤ 25 := by rw [hM]; have := tm_M_le (op := dop cO d) l; omega
  have M0 : 0 < M := by
    rcases Nat.eq_zero_or_pos M with q | q
    · rw [hdm, q] at hm; exact absurd rfl hm
    · exact q
  unfold wpX_add
  refine br_f (nI_pos (by omega)) ⟨i1, ?_⟩
  rw [e1, D.2.2.1, hdm]
  rw [hdm] at hm
  refine br_f hm ⟨i1, br_t (nI_lt (b := 24) hl (by omega)) ?_⟩
  refine wx_in1 (N := 15) ho ?_
  refine br_f nu_10 ?_
  refine wx_fitsA ho (fun _ => br_f nu_10 ?_) (fun q => absurd a q)
  refine wx_fitsB ho (fun _ => br_f nu_10 ?_) (fun q => absurd b q)
  refine wx_fitsC ho hT (fun _ => br_f nu_10 ⟨i1, nm_r (e' := nI (d * 24 + l)) (by rw [nu_m24, nI_add]) ⟨i2, nm_r (e' := upd cO (d * 24 + l) (nI o)) (by rw [e2]) ?_⟩⟩) (fun q => absurd c q)
  have t165 : wX_add_165 post (nI o) (ck o z) (nI (d * 24 + l)) (nI T) (nI P) (nI C) cP stl (nI d) vd eK eD eP stt oC tk sa sb gK gA gB cl nC dd dp dl dm pt (upd cO (d * 24 + l) (nI o)) (upd cA (d * 24 + l) (ak o x)) (upd cB (d * 24 + l) (bk o y)) cC cx cu st pd pp pa pf pv es ew qh qc qk qv ou cm := by
    unfold wX_add_165
    rw [e2, e1, D.2.2.1, hdm, nI_1]
    refine ⟨i2, nm_e ⟨i1, i1, nm_e ⟨i1, wx_mc ho ⟨i1, nm_r (e' := upd dm d (nI (tm_g o M))) ?_ (wx_edited hP hC k)⟩⟩⟩⟩
    congr 1
    unfold tm_g
    by_cases t : o = 0 ∨ o = 1
    · rw [if_pos t, if_pos t, nu_m1 M0]
    · rw [if_neg t, if_neg t]
      by_cases f : o = 5 ∨ o = 11
      · rw [if_pos f, if_pos f, nI_1]
      · rw [if_neg f, if_neg f, Int32.add_zero]
  have t144 : wX_add_144 post (nI o) z (nI (d * 24 + l)) (bk o y) (nI (d * 24 + l)) (nI T) (nI P) (nI C) cP stl (nI d) vd eK eD eP stt oC tk sa sb gK gA gB cl nC dd dp dl dm pt (upd cO (d * 24 + l) (nI o)) (upd cA (d * 24 + l) (ak o x)) cB cC cx cu st pd pp pa pf pv es ew qh qc qk qv ou cm := by
    unfold wX_add_144
    rw [e2]
    refine ⟨i2, nm_e (wx_usesC ho ?_)⟩
    by_cases q : o = 13 ∨ o = 14
    · rw [if_pos q]
      have : ck o z = z := if_pos q
      rw [this] at t165
      exact br_f nu_10 t165
    · rw [if_neg q]
      have : ck o z = 0 := if_neg q
      rw [this] at t165
      exact br_t rfl t165
  have t124 : wX_add_124 post (nI o) y z (nI (d * 24 + l)) (ak o x) (nI (d * 24 + l)) (nI T) (nI P) (nI C) cP stl (nI d) vd eK eD eP stt oC tk sa sb gK gA gB cl nC dd dp dl dm pt (upd cO (d * 24 + l) (nI o)) cA cB cC cx cu st pd pp pa pf pv es ew qh qc qk qv ou cm := by
    unfold wX_add_124
    rw [e2]
    refine ⟨i2, nm_e (wx_usesB ho ?_)⟩
    by_cases q : o = 8 ∨ o = 9 ∨ o = 10 ∨ o = 13 ∨ o = 14
    · rw [if_pos q]
      have : bk o y = y := if_pos q
      rw [this] at t144
      exact br_f nu_10 t144
    · rw [if_neg q]
      have : bk o y = 0 := if_neg q
      rw [this] at t144
      exact br_t rfl t144
  refine wx_usesA ho ?_
  by_cases q : o = 0 ∨ o = 4 ∨ o = 5
  · rw [if_pos q]
    have : ak o x = 0 := if_pos q
    rw [this] at t124
    exact br_t rfl t124
  · rw [if_neg q]
    have : ak o x = x := if_neg q
    rw [this] at t124
    exact br_f nu_10 t124
theorem wx_add0 {post : Int32 → SX → Prop} {v1 x y z : Int32} (hT : T ≤ 16) (hD : DA T dd dp dl dm cO cA cB cC) (hc : cD = -1 ∨ ∃ d, d < 6 ∧ cD = nI d ∧ ¬ dd d = 0) (N : ¬ ∃ d n l o, ag T dd dp dl dm cO cA cB cC cD v1 x y z d n l o) (k : post (-1) (nI T, pR, cH, cP, stl, cD, vd, eK, eD, eP, stt, oC, tk, sa, sb, gK, gA, gB, cl, nC, dd, dp, dl, dm, pt, cO, cA, cB, cC, cx, cu, st, pd, pp, pa, pf, pv, es, ew, qh, qc, qk, qv, ou, cm)) : wpX_add post (nI T, pR, cH, cP, stl, cD, vd, eK, eD, eP, stt, oC, tk, sa, sb, gK, gA, gB, cl, nC, dd, dp, dl, dm, pt, cO, cA, cB, cC, cx, cu, st, pd, pp, pa, pf, pv, es, ew, qh, qc, qk, qv, ou, cm) v1 x y z := by
  unfold wpX_add
  rcases hc with rfl | ⟨d, hd, rfl, hdd⟩
  · exact br_t nu_m1lt k
  · obtain ⟨n, l, D⟩ := hD d hd hdd
    have l24 := D.2.2.2.1
    have e1 : (nI d).toNatClampNeg = d := nI_clamp (by omega)
    have i1 : vp_in (nI d) 6 := vp_in_nI hd (by decide)
    refine br_f (nI_pos (by omega)) ⟨i1, ?_⟩
    rw [e1]
    refine br_c (fun _ => k) (fun hm => ⟨i1, ?_⟩)
    rw [D.2.2.1]
    refine pk_lt l 24 (fun hl => ?_) (fun _ => k)
    rcases nu_cs v1 15 (by omega) with ⟨o, ho, rfl⟩ | n1
    · refine wx_in1 (N := 15) ho ?_
      refine br_f nu_10 ?_
      refine wx_fitsA ho (fun a => br_f nu_10 ?_) (fun _ => br_t rfl k)
      refine wx_fitsB ho (fun b => br_f nu_10 ?_) (fun _ => br_t rfl k)
      exact wx_fitsC ho hT (fun c => absurd ⟨d, n, l, o, hd, rfl, hdd, D, hm, hl, ho, rfl, a, b, c⟩ N) (fun _ => br_t rfl k)
    · refine wx_in0 (N := 15) n1 ?_
      exact br_t rfl k
/-! Y -/
theorem wy_i6 {post : Int32 → Prop} {x : Int32} {N : Nat} {hi : Int32} (hN : N < 2 ^ 31) (hh : hi = nI N) (k1 : (∃ a, a < N ∧ x = nI a) → post 1) (k0 : (¬ ∃ a, a < N ∧ x = nI a) → post 0) : wpY_in post (tY, pR, cH, cP, cD, vd, eK, eD, eP, stt, mC, oC, tk, sa, sb, eq, du, nx, dd, dp, dl, dm, pt, cd, ct, st, yd, yp, ya, yf, hel, mT, mK, mV, ou, eu, ev) x hi := by
  rcases nu_cs x N hN with ⟨a, a1, rfl⟩ | n
  · exact wy_in1 a1 (k1 ⟨a, a1, rfl⟩) hN hh
  · exact wy_in0 n (k0 (fun ⟨a, a1, a2⟩ => nu_nI a2 a1 hN n)) hh
theorem wy_add180 {post : Int32 → SY → Prop} {x y z : Int32} {d n l o M : Nat} (hd : d < 6) (D : df T dp dl dm cO cA cB cC d n l) (hl : l < 24) (ho : o < 15) (hM : M = tm_M (dop cO d) l) (M0 : 0 < M)
    (k : post 0 (nI T, pR, cH, cP, cD, 0, 0, -1, -1, 0, 0, 0, tk, sa, sb, eq, du, nx, dd, dp, upd dl d (nI (l + 1)), upd dm d (nI (tm_g o M)), pt, upd (upd (upd (upd cd ((d * 24 + l) * 4) (nI o)) ((d * 24 + l) * 4 + 1) (ak o x)) ((d * 24 + l) * 4 + 2) (bk o y)) ((d * 24 + l) * 4 + 3) (ck o z), ct, fw st 0 6 (fun _ => 0), yd, yp, ya, yf, fw hel 0 36 (fun _ => -1), mT, mK, mV, ou, eu, ev)) : wY_add_180 post (nI o) x y z (nI d) (if o = 8 ∨ o = 9 ∨ o = 14 then 1 else 0) (if o = 5 ∨ o = 11 then 1 else 0) (nI T) pR cH cP cD vd eK eD eP stt mC oC tk sa sb eq du nx dd dp dl dm pt cd ct st yd yp ya yf hel mT mK mV ou eu ev := by
  have e1 : (nI d).toNatClampNeg = d := nI_clamp (by omega)
  have i1 : vp_in (nI d) 6 := vp_in_nI hd (by decide)
  have hdm : dm d = nI M := by rw [hM]; exact D.2.2.2.2.1
  have M24 : M ≤ 25 := by rw [hM]; have := tm_M_le (op := dop cO d) l; omega
  have ii : ∀ f, f < 4 → vp_in (nI ((d * 24 + l) * 4 + f)) 576 := fun f hf => vp_in_nI (by omega) (by decide)
  have ee : ∀ f, f < 4 → (nI ((d * 24 + l) * 4 + f)).toNatClampNeg = (d * 24 + l) * 4 + f := fun f hf => nI_clamp (by omega)
  have a0 : nI ((d * 24 + l) * 4) = nI ((d * 24 + l) * 4 + 0) := by rw [Nat.add_zero]
  have a1 : nI ((d * 24 + l) * 4) + 1 = nI ((d * 24 + l) * 4 + 1) := nI_1 _
  have a2 : nI ((d * 24 + l) * 4) + 2 = nI ((d * 24 + l) * 4 + 2) := nI_add _ 2
  have a3 : nI ((d * 24 + l) * 4) + 3 = nI ((d * 24 + l) * 4 + 3) := nI_add _ 3
  have t290 : wY_add_290 post (nI o) (nI d) (if o = 5 ∨ o = 11 then 1 else 0) (ck o z) (nI ((d * 24 + l) * 4 + 3)) (nI T) pR cH cP cD vd eK eD eP stt mC oC tk sa sb eq du nx dd dp dl dm pt (upd (upd (upd cd ((d * 24 + l) * 4) (nI o)) ((d * 24 + l) * 4 + 1) (ak o x)) ((d * 24 + l) * 4 + 2) (bk o y)) ct st yd yp ya yf hel mT mK mV ou eu ev := by
    unfold wY_add_290
    rw [ee 3 (by omega), e1, D.2.2.1, nI_1]
    have t322 : o ≠ 0 → o ≠ 1 → wY_add_322 post (nI d) (if o = 5 ∨ o = 11 then 1 else 0) (nI T) pR cH cP cD vd eK eD eP stt mC oC tk sa sb eq du nx dd dp (upd dl d (nI (l + 1))) dm pt (upd (upd (upd (upd cd ((d * 24 + l) * 4) (nI o)) ((d * 24 + l) * 4 + 1) (ak o x)) ((d * 24 + l) * 4 + 2) (bk o y)) ((d * 24 + l) * 4 + 3) (ck o z)) ct st yd yp ya yf hel mT mK mV ou eu ev := fun n0 n1 => by
      unfold wY_add_322
      rw [e1, hdm, nI_1]
      unfold tm_g at k
      rw [if_neg (by omega)] at k
      by_cases f : o = 5 ∨ o = 11
      · rw [if_pos f] at k ⊢
        exact br_f nu_10 ⟨i1, i1, nm_e (wy_edited k)⟩
      · rw [if_neg f] at k ⊢
        rw [up_id dm hdm] at k
        exact br_t rfl (wy_edited k)
    have t311 : (o = 0 ∨ o = 1) → wY_add_311 post (nI d) (if o = 5 ∨ o = 11 then 1 else 0) (nI T) pR cH cP cD vd eK eD eP stt mC oC tk sa sb eq du nx dd dp (upd dl d (nI (l + 1))) dm pt (upd (upd (upd (upd cd ((d * 24 + l) * 4) (nI o)) ((d * 24 + l) * 4 + 1) (ak o x)) ((d * 24 + l) * 4 + 2) (bk o y)) ((d * 24 + l) * 4 + 3) (ck o z)) ct st yd yp ya yf hel mT mK mV ou eu ev := fun t => by
      unfold wY_add_311 wY_add_322
      rw [e1, hdm, nu_s1 M0]
      unfold tm_g at k
      rw [if_pos t] at k
      rw [if_neg (show ¬ (o = 5 ∨ o = 11) by omega)]
      exact ⟨i1, i1, nm_e (br_t rfl (wy_edited k))⟩
    exact ⟨ii 3 (by omega), nm_e ⟨i1, i1, nm_e (pk_eq o 0 (fun q => t311 (Or.inl q)) (fun q0 => pk_eq o 1 (fun q => t311 (Or.inr q)) (fun q1 => t322 q0 q1)))⟩⟩
  have t263 : wY_add_263 post (nI o) z (nI d) (if o = 5 ∨ o = 11 then 1 else 0) (nI ((d * 24 + l) * 4)) (bk o y) (nI ((d * 24 + l) * 4 + 2)) (nI T) pR cH cP cD vd eK eD eP stt mC oC tk sa sb eq du nx dd dp dl dm pt (upd (upd cd ((d * 24 + l) * 4) (nI o)) ((d * 24 + l) * 4 + 1) (ak o x)) ct st yd yp ya yf hel mT mK mV ou eu ev := by
    unfold wY_add_263
    rw [ee 2 (by omega), a3]
    refine ⟨ii 2 (by omega), nm_e (pk_eq o 13 (fun q => ?_) (fun q13 => pk_eq o 14 (fun q => ?_) (fun q14 => ?_)))⟩
    · have : ck o z = z := if_pos (Or.inl q)
      rw [this] at t290; exact t290
    · have : ck o z = z := if_pos (Or.inr q)
      rw [this] at t290; exact t290
    · have : ck o z = 0 := if_neg (by omega)
      rw [this] at t290; exact t290
  have t232 : wY_add_232 post (nI o) y z (nI d) (if o = 8 ∨ o = 9 ∨ o = 14 then 1 else 0) (if o = 5 ∨ o = 11 then 1 else 0) (nI ((d * 24 + l) * 4)) (ak o x) (nI ((d * 24 + l) * 4 + 1)) (nI T) pR cH cP cD vd eK eD eP stt mC oC tk sa sb eq du nx dd dp dl dm pt (upd cd ((d * 24 + l) * 4) (nI o)) ct st yd yp ya yf hel mT mK mV ou eu ev := by
    unfold wY_add_232
    rw [ee 1 (by omega), a2]
    have y1 : (o = 8 ∨ o = 9 ∨ o = 10 ∨ o = 13 ∨ o = 14) → wY_add_258 post (nI o) y z (nI d) (if o = 5 ∨ o = 11 then 1 else 0) (nI ((d * 24 + l) * 4)) (nI ((d * 24 + l) * 4 + 2)) (nI T) pR cH cP cD vd eK eD eP stt mC oC tk sa sb eq du nx dd dp dl dm pt (upd (upd cd ((d * 24 + l) * 4) (nI o)) ((d * 24 + l) * 4 + 1) (ak o x)) ct st yd yp ya yf hel mT mK mV ou eu ev := fun q => by
      have : bk o y = y := if_pos q
      rw [this] at t263; exact t263
    refine ⟨ii 1 (by omega), nm_e ?_⟩
    by_cases q : o = 8 ∨ o = 9 ∨ o = 14
    · rw [if_pos q]
      exact br_f nu_10 (y1 (by omega))
    · rw [if_neg q]
      refine br_t rfl (pk_eq o 10 (fun p => y1 (by omega)) (fun p10 => pk_eq o 13 (fun p => y1 (by omega)) (fun p13 => ?_)))
      have : bk o y = 0 := if_neg (by omega)
      rw [this] at t263; exact t263
  unfold wY_add_180
  rw [e1, D.2.2.1]
  refine ⟨i1, nm_r (e' := nI ((d * 24 + l) * 4)) (by rw [nu_m24, nI_add, nu_m4]) ?_⟩
  rw [a1]
  refine ⟨by rw [a0]; exact ii 0 (by omega), nm_r (e' := upd cd ((d * 24 + l) * 4) (nI o)) (by rw [nI_clamp (by omega)]) ?_⟩
  have z0 : (o = 0 ∨ o = 4 ∨ o = 5) → wY_add_227 post (nI o) y z (nI d) (if o = 8 ∨ o = 9 ∨ o = 14 then 1 else 0) (if o = 5 ∨ o = 11 then 1 else 0) (nI ((d * 24 + l) * 4)) (nI ((d * 24 + l) * 4 + 1)) (nI T) pR cH cP cD vd eK eD eP stt mC oC tk sa sb eq du nx dd dp dl dm pt (upd cd ((d * 24 + l) * 4) (nI o)) ct st yd yp ya yf hel mT mK mV ou eu ev := fun q => by
    have : ak o x = 0 := if_pos q
    rw [this] at t232; exact t232
  refine pk_eq o 0 (fun q => z0 (by omega)) (fun q0 => pk_eq o 4 (fun q => z0 (by omega)) (fun q4 => pk_eq o 5 (fun q => z0 (by omega)) (fun q5 => ?_)))
  have : ak o x = x := if_neg (by omega)
  rw [this] at t232; exact t232
/-- Y's tests of the operands -/
theorem wy_add76 {post : Int32 → SY → Prop} {x y z x7 : Int32} {d o : Nat} (hT : T ≤ 16) (ho : o < 15) (k1 : (6 ≤ o → in6 x) → okB o y → okC T o z → wY_add_180 post (nI o) x y z (nI d) (if o = 8 ∨ o = 9 ∨ o = 14 then 1 else 0) x7 (nI T) pR cH cP cD vd eK eD eP stt mC oC tk sa sb eq du nx dd dp dl dm pt cd ct st yd yp ya yf hel mT mK mV ou eu ev) (k0 : ¬ ((6 ≤ o → in6 x) ∧ okB o y ∧ okC T o z) → post (-1) (nI T, pR, cH, cP, cD, vd, eK, eD, eP, stt, mC, oC, tk, sa, sb, eq, du, nx, dd, dp, dl, dm, pt, cd, ct, st, yd, yp, ya, yf, hel, mT, mK, mV, ou, eu, ev)) :
    wY_add_76 post (nI o) x y z (nI d) (if o = 8 ∨ o = 9 ∨ o = 14 then 1 else 0) x7 (nI T) pR cH cP cD vd eK eD eP stt mC oC tk sa sb eq du nx dd dp dl dm pt cd ct st yd yp ya yf hel mT mK mV ou eu ev := by
  have s159 : (6 ≤ o → in6 x) → okB o y → (o = 13 → ∃ m, m < 64 ∧ z = nI m) → wY_add_159 post (nI o) x y z (nI d) (if o = 8 ∨ o = 9 ∨ o = 14 then 1 else 0) x7 (nI T) pR cH cP cD vd eK eD eP stt mC oC tk sa sb eq du nx dd dp dl dm pt cd ct st yd yp ya yf hel mT mK mV ou eu ev := fun a b c => by
    unfold wY_add_159
    refine pk_eq o 14 (fun q => ?_) (fun q => k1 a b ⟨c, fun p => absurd p q⟩)
    exact wy_i6 (N := T) (by omega) rfl (fun p => br_f nu_10 (k1 a b ⟨c, fun _ => p⟩)) (fun p => br_t rfl (k0 (fun r => p (r.2.2.2 q))))
  have s142 : (6 ≤ o → in6 x) → okB o y → wY_add_142 post (nI o) x y z (nI d) (if o = 8 ∨ o = 9 ∨ o = 14 then 1 else 0) x7 (nI T) pR cH cP cD vd eK eD eP stt mC oC tk sa sb eq du nx dd dp dl dm pt cd ct st yd yp ya yf hel mT mK mV ou eu ev := fun a b => by
    unfold wY_add_142
    refine pk_eq o 13 (fun q => ?_) (fun q => s159 a b (fun p => absurd p q))
    exact wy_i6 (N := 64) (by omega) rfl (fun p => br_f nu_10 (s159 a b (fun _ => p))) (fun p => br_t rfl (k0 (fun r => p (r.2.2.1 q))))
  have s124 : (6 ≤ o → in6 x) → ((o = 8 ∨ o = 9 ∨ o = 14) → in6 y) → (o = 10 → ∃ b, b < 2 ∧ y = nI b) → wY_add_124 post (nI o) x y z (nI d) (if o = 8 ∨ o = 9 ∨ o = 14 then 1 else 0) x7 (nI T) pR cH cP cD vd eK eD eP stt mC oC tk sa sb eq du nx dd dp dl dm pt cd ct st yd yp ya yf hel mT mK mV ou eu ev := fun a b1 b2 => by
    unfold wY_add_124
    refine pk_eq o 13 (fun q => ?_) (fun q => s142 a ⟨b1, b2, fun p => absurd p q⟩)
    exact wy_i6 (N := 6) (by omega) rfl (fun p => br_f nu_10 (s142 a ⟨b1, b2, fun _ => p⟩)) (fun p => br_t rfl (k0 (fun r => p (r.2.1.2.2 q))))
  have s109 : (6 ≤ o → in6 x) → ((o = 8 ∨ o = 9 ∨ o = 14) → in6 y) → wY_add_109 post (nI o) x y z (nI d) (if o = 8 ∨ o = 9 ∨ o = 14 then 1 else 0) x7 (nI T) pR cH cP cD vd eK eD eP stt mC oC tk sa sb eq du nx dd dp dl dm pt cd ct st yd yp ya yf hel mT mK mV ou eu ev := fun a b1 => by
    unfold wY_add_109
    refine pk_eq o 10 (fun q => ?_) (fun q => s124 a b1 (fun p => absurd p q))
    exact wy_i6 (N := 2) (by omega) rfl (fun p => br_f nu_10 (s124 a b1 (fun _ => p))) (fun p => br_t rfl (k0 (fun r => p (r.2.1.2.1 q))))
  have s94 : (6 ≤ o → in6 x) → wY_add_94 post (nI o) x y z (nI d) (if o = 8 ∨ o = 9 ∨ o = 14 then 1 else 0) x7 (nI T) pR cH cP cD vd eK eD eP stt mC oC tk sa sb eq du nx dd dp dl dm pt cd ct st yd yp ya yf hel mT mK mV ou eu ev := fun a => by
    unfold wY_add_94
    by_cases q : o = 8 ∨ o = 9 ∨ o = 14
    · refine br_f (by rw [if_pos q]; exact nu_10) ?_
      exact wy_i6 (N := 6) (by omega) rfl (fun p => br_f nu_10 (s109 a (fun _ => p))) (fun p => br_t rfl (k0 (fun r => p (r.2.1.1 q))))
    · exact br_t (if_neg q) (s109 a (fun p => absurd p q))
  unfold wY_add_76
  refine pk_lt o 6 (fun q => s94 (fun p => absurd p (by omega))) (fun q => ?_)
  exact wy_i6 (N := 6) (by omega) rfl (fun p => br_f nu_10 (s94 (fun _ => p))) (fun p => br_t rfl (k0 (fun r => p (r.1 q))))
theorem wy_add {post : Int32 → SY → Prop} {v1 x y z : Int32} {d n l o M : Nat} (hT : T ≤ 16) (G : ag T dd dp dl dm cO cA cB cC cD v1 x y z d n l o) (hM : M = tm_M (dop cO d) l)
    (k : post 0 (nI T, pR, cH, cP, cD, 0, 0, -1, -1, 0, 0, 0, tk, sa, sb, eq, du, nx, dd, dp, upd dl d (nI (l + 1)), upd dm d (nI (tm_g o M)), pt, upd (upd (upd (upd cd ((d * 24 + l) * 4) (nI o)) ((d * 24 + l) * 4 + 1) (ak o x)) ((d * 24 + l) * 4 + 2) (bk o y)) ((d * 24 + l) * 4 + 3) (ck o z), ct, fw st 0 6 (fun _ => 0), yd, yp, ya, yf, fw hel 0 36 (fun _ => -1), mT, mK, mV, ou, eu, ev)) : wpY_add post (nI T, pR, cH, cP, cD, vd, eK, eD, eP, stt, mC, oC, tk, sa, sb, eq, du, nx, dd, dp, dl, dm, pt, cd, ct, st, yd, yp, ya, yf, hel, mT, mK, mV, ou, eu, ev) v1 x y z := by
  obtain ⟨hd, rfl, hdd, D, hm, hl, ho, rfl, a, b, c⟩ := G
  have e1 : (nI d).toNatClampNeg = d := nI_clamp (by omega)
  have i1 : vp_in (nI d) 6 := vp_in_nI hd (by decide)
  have hdm : dm d = nI M := by rw [hM]; exact D.2.2.2.2.1
  have M0 : 0 < M := by
    rcases Nat.eq_zero_or_pos M with q | q
    · rw [hdm, q] at hm; exact absurd rfl hm
    · exact q
  unfold wpY_add
  refine br_t (nI_pos' (by omega)) ⟨i1, ?_⟩
  rw [e1]
  refine br_f hm ⟨i1, ?_⟩
  rw [D.2.2.1]
  refine br_f (nI_ge (b := 24) hl (by omega)) (br_f (nI_pos (by omega)) (br_t (nI_le (b := 14) (by omega) (by omega)) ?_))
  refine wy_usesY ho ?_
  refine wy_forks ho ?_
  have g76 : wY_add_76 post (nI o) x y z (nI d) (if o = 8 ∨ o = 9 ∨ o = 14 then 1 else 0) (if o = 5 ∨ o = 11 then 1 else 0) (nI T) pR cH cP (nI d) vd eK eD eP stt mC oC tk sa sb eq du nx dd dp dl dm pt cd ct st yd yp ya yf hel mT mK mV ou eu ev := wy_add76 hT ho (fun _ _ _ => wy_add180 hd D hl ho hM M0 k) (fun q => absurd ⟨a.2, b, c⟩ q)
  refine pk_eq o 1 (fun q => ?_) (fun q => g76)
  exact wy_i6 (N := 6) (by omega) rfl (fun p => br_f nu_10 g76) (fun p => absurd (a.1 q) p)
theorem wy_add0 {post : Int32 → SY → Prop} {v1 x y z : Int32} (hT : T ≤ 16) (hD : DA T dd dp dl dm cO cA cB cC) (hc : cD = -1 ∨ ∃ d, d < 6 ∧ cD = nI d ∧ ¬ dd d = 0) (N : ¬ ∃ d n l o, ag T dd dp dl dm cO cA cB cC cD v1 x y z d n l o) (k : post (-1) (nI T, pR, cH, cP, cD, vd, eK, eD, eP, stt, mC, oC, tk, sa, sb, eq, du, nx, dd, dp, dl, dm, pt, cd, ct, st, yd, yp, ya, yf, hel, mT, mK, mV, ou, eu, ev)) : wpY_add post (nI T, pR, cH, cP, cD, vd, eK, eD, eP, stt, mC, oC, tk, sa, sb, eq, du, nx, dd, dp, dl, dm, pt, cd, ct, st, yd, yp, ya, yf, hel, mT, mK, mV, ou, eu, ev) v1 x y z := by
  unfold wpY_add
  rcases hc with rfl | ⟨d, hd, rfl, hdd⟩
  · exact br_f nu_m1le k
  · obtain ⟨n, l, D⟩ := hD d hd hdd
    have l24 := D.2.2.2.1
    have e1 : (nI d).toNatClampNeg = d := nI_clamp (by omega)
    have i1 : vp_in (nI d) 6 := vp_in_nI hd (by decide)
    refine br_t (nI_pos' (by omega)) ⟨i1, ?_⟩
    rw [e1]
    refine br_c (fun _ => k) (fun hm => ⟨i1, ?_⟩)
    rw [D.2.2.1]
    refine pk_le 24 l (fun _ => k) (fun hl => br_c (fun _ => k) (fun v0 => ?_))
    rcases nu_cs v1 15 (by omega) with ⟨o, ho, rfl⟩ | n1
    · refine br_t (nI_le (b := 14) (by omega) (by omega)) ?_
      refine wy_usesY ho ?_
      refine wy_forks ho ?_
      have g76 : (o = 1 → in6 x) → wY_add_76 post (nI o) x y z (nI d) (if o = 8 ∨ o = 9 ∨ o = 14 then 1 else 0) (if o = 5 ∨ o = 11 then 1 else 0) (nI T) pR cH cP (nI d) vd eK eD eP stt mC oC tk sa sb eq du nx dd dp dl dm pt cd ct st yd yp ya yf hel mT mK mV ou eu ev := fun a1 => wy_add76 hT ho (fun a b c => absurd ⟨d, n, l, o, hd, rfl, hdd, D, hm, hl, ho, rfl, ⟨a1, a⟩, b, c⟩ N) (fun _ => k)
      refine pk_eq o 1 (fun q => ?_) (fun q => g76 (fun p => absurd p q))
      exact wy_i6 (N := 6) (by omega) rfl (fun p => br_f nu_10 (g76 (fun _ => p))) (fun p => br_t rfl k)
    · exact br_f (fun p => absurd p (Int32.not_le.mpr (nu_hx (N := 15) (by omega) v0 (n1.resolve_left v0)))) k
/-! the definitions stay sound -/
theorem df_cc {cO' cA' cB' cC' : Nat → Int32} {d n l : Nat} (D : df T dp dl dm cO cA cB cC d n l) (h : ∀ i, i < l → cO' (d * 24 + i) = cO (d * 24 + i) ∧ cA' (d * 24 + i) = cA (d * 24 + i) ∧ cB' (d * 24 + i) = cB (d * 24 + i) ∧ cC' (d * 24 + i) = cC (d * 24 + i)) : df T dp dl dm cO' cA' cB' cC' d n l := by
  obtain ⟨a1, a2, a3, a4, a5, a6, a7⟩ := D
  have e : ∀ i, i < l → dop cO' d i = dop cO d i := fun i hi => by unfold dop; rw [(h i hi).1]
  refine ⟨a1, a2, a3, a4, ?_, fun i hi => ?_, fun i hi => ?_⟩
  · rw [tm_M_ext l (fun j hj => e j hj)]; exact a5
  · rw [tm_M_ext i (fun j hj => e j (by omega))]; exact a6 i hi
  · rw [e i hi, (h i hi).1, (h i hi).2.1, (h i hi).2.2.1, (h i hi).2.2.2]; exact a7 i hi
theorem zd_add {v1 x y z : Int32} {d n l o M : Nat} (h : zd T dd dp dl dm pt cO cA cB cC cd cD) (G : ag T dd dp dl dm cO cA cB cC cD v1 x y z d n l o) (hM : M = tm_M (dop cO d) l) :
    zd T dd dp (upd dl d (nI (l + 1))) (upd dm d (nI (tm_g o M))) pt (upd cO (d * 24 + l) (nI o)) (upd cA (d * 24 + l) (ak o x)) (upd cB (d * 24 + l) (bk o y)) (upd cC (d * 24 + l) (ck o z)) (upd (upd (upd (upd cd ((d * 24 + l) * 4) (nI o)) ((d * 24 + l) * 4 + 1) (ak o x)) ((d * 24 + l) * 4 + 2) (bk o y)) ((d * 24 + l) * 4 + 3) (ck o z)) cD := by
  obtain ⟨z1, z2, z3, z4, z5⟩ := h
  obtain ⟨hd, hcD, hdd, D, hm, hl, ho, hv, a, b, c⟩ := G
  have hdm : dm d = nI M := by rw [hM]; exact D.2.2.2.2.1
  have M0 : 0 < M := by
    rcases Nat.eq_zero_or_pos M with q | q
    · rw [hdm, q] at hm; exact absurd rfl hm
    · exact q
  refine ⟨z1, z2, fun e he hn => ?_, fun j hj => ?_, z5⟩
  · by_cases q : e = d
    · subst q
      have D' : df T dp dl dm (upd cO (e * 24 + l) (nI o)) (upd cA (e * 24 + l) (ak o x)) (upd cB (e * 24 + l) (bk o y)) (upd cC (e * 24 + l) (ck o z)) e n l := df_cc D (fun i hi => by
        rw [pk_un (by omega), pk_un (by omega), pk_un (by omega), pk_un (by omega)]; exact ⟨rfl, rfl, rfl, rfl⟩)
      have ol : dop (upd cO (e * 24 + l) (nI o)) e l = o := by unfold dop; rw [pk_us, nI_clamp (by omega)]
      have ml : tm_M (dop (upd cO (e * 24 + l) (nI o)) e) l = M := by
        rw [hM]; exact tm_M_ext l (fun j hj => by unfold dop; rw [pk_un (by omega)])
      obtain ⟨a1, a2, a3, a4, a5, a6, a7⟩ := D'
      refine ⟨n, l + 1, a1, a2, pk_us, by omega, ?_, fun i hi => ?_, fun i hi => ?_⟩
      · rw [pk_us, tm_M, ol, ml]
      · by_cases p : i = l
        · rw [p, ml]; exact M0
        · exact a6 i (by omega)
      · by_cases p : i = l
        · rw [p, ol, pk_us, pk_us, pk_us, pk_us]; exact ⟨rfl, ok_co ho a b c⟩
        · exact a7 i (by omega)
    · obtain ⟨n', l', D'⟩ := z3 e he hn
      have l24 := D'.2.2.2.1
      refine ⟨n', l', df_c (T' := T) (df_cc D' (fun i hi => ?_)) rfl (pk_un q) (pk_un q)⟩
      rw [pk_un (by omega), pk_un (by omega), pk_un (by omega), pk_un (by omega)]
      exact ⟨rfl, rfl, rfl, rfl⟩
  · obtain ⟨c0, c1, c2, c3⟩ := z4 j hj
    by_cases q : j = d * 24 + l
    · subst q
      rw [pk_us (f := cO), pk_us (f := cA), pk_us (f := cB), pk_us (f := cC)]
      refine ⟨?_, ?_, ?_, pk_us⟩
      · rw [pk_un (by omega), pk_un (by omega), pk_un (by omega), pk_us]
      · rw [pk_un (by omega), pk_un (by omega), pk_us]
      · rw [pk_un (by omega), pk_us]
    · rw [pk_un q, pk_un q, pk_un q, pk_un q]
      have nn : ∀ f, f < 4 → upd (upd (upd (upd cd ((d * 24 + l) * 4) (nI o)) ((d * 24 + l) * 4 + 1) (ak o x)) ((d * 24 + l) * 4 + 2) (bk o y)) ((d * 24 + l) * 4 + 3) (ck o z) (j * 4 + f) = cd (j * 4 + f) := fun f hf => by
        rw [pk_un (by omega), pk_un (by omega), pk_un (by omega), pk_un (by omega)]
      have n0 := nn 0 (by omega)
      rw [Nat.add_zero] at n0
      exact ⟨n0.trans c0, (nn 1 (by omega)).trans c1, (nn 2 (by omega)).trans c2, (nn 3 (by omega)).trans c3⟩
end ADD
theorem i_vc_add {k : Nat} {u : SX} {v : SY} (I : i_Rel k u v) (hk : k + 5 ≤ 2564) (v1 : Int32) (v2 : Int32) (v3 : Int32) (v4 : Int32) : wpX_add (fun r u' => wpY_add (fun r' v' => r' = r ∧ i_Rel (k + 5) u' v') v v1 v2 v3 v4) u v1 v2 v3 v4 := by
  refine zz_el (R := fun u v => wpX_add (fun r u' => wpY_add (fun r' v' => r' = r ∧ i_Rel (k + 5) u' v') v v1 v2 v3 v4) u v1 v2 v3 v4) ?_ I
  intro T P C Q O K A B L stl cD vd eK eD eP stt tk sa sb gK gA gB cl nC dd dp dl dm pt cO cA cB cC cx cu st pd pp pa pf pv es ew qh qc qk qv ou cm eq du nx cd ct yd yp ya yf hel mT mK mV eu ev hS hT hD hV hR
  have J : i_Rel (k + 5) (nI T, nI P, nI C, nI Q, stl, cD, vd, eK, eD, eP, stt, nI O, tk, sa, sb, gK, gA, gB, cl, nC, dd, dp, dl, dm, pt, cO, cA, cB, cC, cx, cu, st, pd, pp, pa, pf, pv, es, ew, qh, qc, qk, qv, ou, cm) (nI T, nI P, nI C, nI Q, cD, vd, eK, eD, eP, stt, nI L.length, nI O, tk, sa, sb, eq, du, nx, dd, dp, dl, dm, pt, cd, ct, st, yd, yp, ya, yf, hel, mT, mK, mV, ou, eu, ev) := zz_in hS hT hD hV hR
  have T2 := hT.1.2.1
  by_cases G : ∃ d n l o, ag T dd dp dl dm cO cA cB cC cD v1 v2 v3 v4 d n l o
  · obtain ⟨d, n, l, o, G⟩ := G
    exact wx_add T2 hS.2.1 hS.2.2.2.1 G rfl (wy_add T2 G rfl ⟨rfl, zz_ed hS hT (zd_add hD G rfl) hV.2.1 hV.2.2 hR.2.1⟩)
  · exact wx_add0 T2 hD.2.2.1 hD.2.2.2.2 G (wy_add0 T2 hD.2.2.1 hD.2.2.2.2 G ⟨rfl, J⟩)
end
section
section CK1
variable {tY pR cH cP stl cD vd eK eD eP stt oC mC : Int32} {tk sa sb gK gA gB cl nC dd dp dl dm pt cO cA cB cC cx cu st pd pp pa pf pv es ew qh qc qk qv ou cm eq du nx cd ct yd yp ya yf hel mT mK mV eu ev : Nat → Int32}
variable {T P C Q O : Nat} {K A B : Nat → Nat} {L : List MG}
theorem wb_chk (hT : zt T K A B tk sa sb cl stl) (hD : zd T dd dp dl dm pt cO cA cB cC cd cD) (hV : zv T K A B dd dp dl dm pt cO cA cB cC vd eK eD eP cx cu ct) : ∃ v k a p : Int32,
    (∀ post : Int32 → SX → Prop, (∀ (gK gA gB cl nC cx cu : Nat → Int32), zt T K A B tk sa sb cl 0 → (∀ v, 6 ≤ v → cu v = 0) → fc T K A B dd dp dl dm pt cO cA cB cC v k a p cx → post v (nI T, pR, cH, cP, 0, cD, v, k, a, p, stt, oC, tk, sa, sb, gK, gA, gB, cl, nC, dd, dp, dl, dm, pt, cO, cA, cB, cC, cx, cu, st, pd, pp, pa, pf, pv, es, ew, qh, qc, qk, qv, ou, cm)) → wpX_check post (nI T, pR, cH, cP, stl, cD, vd, eK, eD, eP, stt, oC, tk, sa, sb, gK, gA, gB, cl, nC, dd, dp, dl, dm, pt, cO, cA, cB, cC, cx, cu, st, pd, pp, pa, pf, pv, es, ew, qh, qc, qk, qv, ou, cm)) ∧
    (∀ post : Int32 → SY → Prop, (∀ (eq du nx ct : Nat → Int32), (∀ v, 6 ≤ v → ct v = 0) → post v (nI T, pR, cH, cP, cD, v, k, a, p, stt, mC, oC, tk, sa, sb, eq, du, nx, dd, dp, dl, dm, pt, cd, ct, st, yd, yp, ya, yf, hel, mT, mK, mV, ou, eu, ev)) → wpY_check post (nI T, pR, cH, cP, cD, vd, eK, eD, eP, stt, mC, oC, tk, sa, sb, eq, du, nx, dd, dp, dl, dm, pt, cd, ct, st, yd, yp, ya, yf, hel, mT, mK, mV, ou, eu, ev)) := by
  obtain ⟨n0, n6, hn0⟩ := hD.2.1 0 (by omega)
  by_cases h0 : dd 0 = 0 ∨ ¬ n0 = 0
  · refine ⟨3, 1, 0, 0, fun post kk => ?_, fun post kk => ?_⟩
    · unfold wpX_check
      refine wx_refresh hT.1 hT.2.1 hT.2.2 (fun gK gA gB cl nC c c1 c2 => ?_)
      have F := kk gK gA gB cl nC cx cu ⟨hT.1, hT.2.1, fun _ => ⟨c, c1, c2⟩⟩ hV.2.1 (fun _ z => absurd rfl z)
      refine br_c (fun _ => F) (fun z => br_f ?_ F)
      rw [hn0]
      intro q
      exact h0.resolve_left z ((nI_eq (b := 0) (by omega) (by omega)).mp q)
    · unfold wpY_check
      refine wy_relate hT.1 hT.2.1 (fun eq du nx q1 q2 => ?_)
      have F := kk eq du nx ct hV.2.2
      refine br_c (fun _ => F) (fun z => br_f ?_ F)
      rw [hn0]
      intro q
      exact h0.resolve_left z ((nu_le0 (by omega)).mp q)
  · have z0 : ¬ dd 0 = 0 := fun q => h0 (Or.inl q)
    have y0 : n0 = 0 := Classical.byContradiction (fun q => h0 (Or.inr q))
    subst y0
    obtain ⟨v, k, a, p, HX, HY⟩ := wb_check (pR := pR) (cH := cH) (cP := cP) (cD := cD) (stt := stt) (stl := 0) (oC := oC) (mC := mC) (tk := tk) (sa := sa) (sb := sb) (dd := dd) (dp := dp) (dl := dl) (dm := dm) (pt := pt) (cO := cO) (cA := cA) (cB := cB) (cC := cC) (st := st) (pd := pd) (pp := pp) (pa := pa) (pf := pf) (pv := pv) (es := es) (ew := ew) (qh := qh) (qc := qc) (qk := qk) (qv := qv) (ou := ou) (cm := cm) (cd := cd) (yd := yd) (yp := yp) (ya := ya) (yf := yf) (hel := hel) (mT := mT) (mK := mK) (mV := mV) (eu := eu) (ev := ev) (T := T) (K := K) (A := A) (B := B) hD.2.2.2.1 hD.2.2.1 6 0 rfl false
    refine ⟨v, k, a, p, fun post kk => ?_, fun post kk => ?_⟩
    · unfold wpX_check
      refine wx_refresh hT.1 hT.2.1 hT.2.2 (fun gK gA gB cl nC c c1 c2 => ?_)
      refine br_f z0 (br_t hn0 ⟨7, ?_⟩)
      exact HX gK gA gB cl nC c ⟨hT.1, hT.2.1, c1, c2, hD.1, hD.2.1⟩ 7 cx cu vd eK eD eP post (by omega) hV.2.1 (fun d hd => absurd hd (Nat.not_lt_zero d)) (fun cx' cu' Z F => kk gK gA gB cl nC cx' cu' ⟨hT.1, hT.2.1, fun _ => ⟨c, c1, c2⟩⟩ Z F)
    · unfold wpY_check
      refine wy_relate hT.1 hT.2.1 (fun eq du nx q1 q2 => ?_)
      refine br_f z0 (br_t (by rw [hn0]; decide) ⟨7, ?_⟩)
      exact HY eq du nx ⟨hT.1, hT.2.1, q1, q2, hD.1, hD.2.1⟩ 7 ct vd eK eD eP post (by omega) hV.2.2 (fun ct' Z => kk eq du nx ct' Z)
end CK1
theorem i_vc_check {k : Nat} {u : SX} {v : SY} (I : i_Rel k u v) (hk : k + 5 ≤ 2564) : wpX_check (fun r u' => wpY_check (fun r' v' => r' = r ∧ i_Rel (k + 5) u' v') v) u := by
  refine zz_el (R := fun u v => wpX_check (fun r u' => wpY_check (fun r' v' => r' = r ∧ i_Rel (k + 5) u' v') v) u) ?_ I
  intro T P C Q O K A B L stl cD vd eK eD eP stt tk sa sb gK gA gB cl nC dd dp dl dm pt cO cA cB cC cx cu st pd pp pa pf pv es ew qh qc qk qv ou cm eq du nx cd ct yd yp ya yf hel mT mK mV eu ev hS hT hD hV hR
  obtain ⟨w, e, a, p, HX, HY⟩ := wb_chk (pR := nI P) (cH := nI C) (cP := nI Q) (stt := stt) (oC := nI O) (mC := nI L.length) (gK := gK) (gA := gA) (gB := gB) (nC := nC) (st := st) (pd := pd) (pp := pp) (pa := pa) (pf := pf) (pv := pv) (es := es) (ew := ew) (qh := qh) (qc := qc) (qk := qk) (qv := qv) (ou := ou) (cm := cm) (eq := eq) (du := du) (nx := nx) (yd := yd) (yp := yp) (ya := ya) (yf := yf) (hel := hel) (mT := mT) (mK := mK) (mV := mV) (eu := eu) (ev := ev) hT hD hV
  refine HX _ (fun gK gA gB cl nC cx cu t Z F => ?_)
  exact HY _ (fun eq du nx ct Z' => ⟨rfl, zz_in hS t hD ⟨F, Z, Z'⟩ hR⟩)
section TAT
variable {tY pR cH cP stl cD vd eK eD eP stt oC mC : Int32} {tk sa sb gK gA gB cl nC dd dp dl dm pt cO cA cB cC cx cu st pd pp pa pf pv es ew qh qc qk qv ou cm eq du nx cd ct yd yp ya yf hel mT mK mV eu ev : Nat → Int32}
variable {T P C Q O : Nat} {K A B : Nat → Nat} {L : List MG}
theorem ty_E_r : ∀ k t, ty_e K A B k t t := by
  intro k
  induction k with
  | zero => intro _; trivial
  | succ k ih => intro t; exact ⟨rfl, Or.inr (ih _), Or.inr (ih _)⟩
theorem wy_ta112 {post : Int32 → SY → Prop} (hE : tb (ty_E K A B) eq 256) (hT : T ≤ 16) {x t : Nat} (hx : x < 6) (ht : t < T) (hc : ct x = nI t) (k : ∀ u, u < T → ty_E K A B t u → (∀ w, w < u → ¬ ty_E K A B t w) → post (nI u) (nI T, pR, cH, cP, cD, vd, eK, eD, eP, stt, mC, oC, tk, sa, sb, eq, du, nx, dd, dp, dl, dm, pt, cd, ct, st, yd, yp, ya, yf, hel, mT, mK, mV, ou, eu, ev)) :
    ∀ n u, u ≤ t → t < n + u → (∀ w, w < u → ¬ ty_E K A B t w) → wY_typeAt_112 post (nI x) (nI T) pR cH cP cD vd eK eD eP stt mC oC tk sa sb eq du nx dd dp dl dm pt cd ct st yd yp ya yf hel mT mK mV ou eu ev n (nI u) := by
  have e1 : (nI x).toNatClampNeg = x := nI_clamp (by omega)
  have i1 : vp_in (nI x) 6 := vp_in_nI hx (by decide)
  intro n
  induction n with
  | zero => intro u h1 h2; omega
  | succ n ih =>
    intro u h1 h2 I
    refine br_f (nI_ge (by omega) (by omega)) ⟨i1, ?_⟩
    rw [e1, hc]
    refine br_f (nI_pos (by omega)) ⟨i1, ?_⟩
    rw [nu_m16, nI_add, nI_clamp (show t * 16 + u < 2 ^ 31 by omega)]
    refine ⟨vp_in_nI (by omega) (by decide), br_c (fun z => ?_) (fun z => ?_)⟩
    · have z := (tb_z hE (show t < 16 by omega) (show u < 16 by omega)).mp z
      have : u ≠ t := fun q => z (fun m => by rw [q]; exact ty_E_r m t)
      refine nm_r (nI_1 u) (ih (u + 1) (by omega) (by omega) (fun w hw => ?_))
      by_cases e : w = u
      · rw [e]; exact z
      · exact I w (by omega)
    · exact k u (by omega) (Classical.byContradiction (fun q => z ((tb_z hE (show t < 16 by omega) (show u < 16 by omega)).mpr q))) I
theorem wy_ta112n {post : Int32 → SY → Prop} (hT : T ≤ 16) {x : Nat} (hx : x < 6) (hc : ct x < 0) (k : post (-1) (nI T, pR, cH, cP, cD, vd, eK, eD, eP, stt, mC, oC, tk, sa, sb, eq, du, nx, dd, dp, dl, dm, pt, cd, ct, st, yd, yp, ya, yf, hel, mT, mK, mV, ou, eu, ev)) :
    ∀ n u, u ≤ T → T < n + u → wY_typeAt_112 post (nI x) (nI T) pR cH cP cD vd eK eD eP stt mC oC tk sa sb eq du nx dd dp dl dm pt cd ct st yd yp ya yf hel mT mK mV ou eu ev n (nI u) := by
  have e1 : (nI x).toNatClampNeg = x := nI_clamp (by omega)
  have i1 : vp_in (nI x) 6 := vp_in_nI hx (by decide)
  intro n
  induction n with
  | zero => intro u h1 h2; omega
  | succ n ih =>
    intro u h1 h2
    by_cases z : u = T
    · subst z; exact br_t (nI_le (Nat.le_refl _) (by omega)) k
    · refine br_f (nI_ge (by omega) (by omega)) ⟨i1, ?_⟩
      rw [e1]
      exact br_t hc (nm_r (nI_1 u) (ih (u + 1) (by omega) (by omega)))
/-- the places whose contexts may be asked -/
def tq (T : Nat) (dd dp dl dm cO cA cB cC : Nat → Int32) (vd eK eD eP v1 v2 v3 : Int32) (d n l q x : Nat) : Prop := ¬ vd = 0 ∧ ¬ eK = 1 ∧ d < 6 ∧ ¬ dd d = 0 ∧ df T dp dl dm cO cA cB cC d n l ∧ q < l ∧ x < 6 ∧ v1 = nI d ∧ v2 = nI q ∧ v3 = nI x ∧ (vd = 3 → v1 < eD ∨ (v1 = eD ∧ v2 ≤ eP))
theorem wx_typeAt {post : Int32 → SX → Prop} {v1 v2 v3 : Int32} {d n l q x : Nat} (G : tq T dd dp dl dm cO cA cB cC vd eK eD eP v1 v2 v3 d n l q x) (hT : zt T K A B tk sa sb cl stl) {t : Int32} (hcx : cx ((d * 24 + q) * 6 + x) = t)
    (k0 : t < 0 → ∀ gK gA gB cl nC : Nat → Int32, zt T K A B tk sa sb cl 0 → post (-1) (nI T, pR, cH, cP, 0, cD, vd, eK, eD, eP, stt, oC, tk, sa, sb, gK, gA, gB, cl, nC, dd, dp, dl, dm, pt, cO, cA, cB, cC, cx, cu, st, pd, pp, pa, pf, pv, es, ew, qh, qc, qk, qv, ou, cm))
    (k1 : ∀ j, j < T → t = nI j → ∀ (gK gA gB cl nC : Nat → Int32), zt T K A B tk sa sb cl 0 → ∀ u, u < T → ty_E K A B j u → (∀ w, w < u → ¬ ty_E K A B j w) → post (nI u) (nI T, pR, cH, cP, 0, cD, vd, eK, eD, eP, stt, oC, tk, sa, sb, gK, gA, gB, cl, nC, dd, dp, dl, dm, pt, cO, cA, cB, cC, cx, cu, st, pd, pp, pa, pf, pv, es, ew, qh, qc, qk, qv, ou, cm)) (ht : t < 0 ∨ ∃ j, j < T ∧ t = nI j) : wpX_typeAt post (nI T, pR, cH, cP, stl, cD, vd, eK, eD, eP, stt, oC, tk, sa, sb, gK, gA, gB, cl, nC, dd, dp, dl, dm, pt, cO, cA, cB, cC, cx, cu, st, pd, pp, pa, pf, pv, es, ew, qh, qc, qk, qv, ou, cm) v1 v2 v3 := by
  obtain ⟨g1, g2, hd, hdd, D, hq, hx, rfl, rfl, rfl, g3⟩ := G
  have e1 : (nI d).toNatClampNeg = d := nI_clamp (by omega)
  have l24 := D.2.2.2.1
  have T2 := hT.1.2.1
  have F : wX_typeAt_94 post (nI d) (nI q) (nI x) (nI T) pR cH cP stl cD vd eK eD eP stt oC tk sa sb gK gA gB cl nC dd dp dl dm pt cO cA cB cC cx cu st pd pp pa pf pv es ew qh qc qk qv ou cm := by
    unfold wX_typeAt_94
    refine wx_refresh hT.1 hT.2.1 hT.2.2 (fun gK gA gB cl nC c c1 c2 => ?_)
    dsimp only
    have Z : zt T K A B tk sa sb cl 0 := ⟨hT.1, hT.2.1, fun _ => ⟨c, c1, c2⟩⟩
    rw [nu_m24, nI_add, nu_m6, nI_add, nI_clamp (show (d * 24 + q) * 6 + x < 2 ^ 31 by omega)]
    refine ⟨vp_in_nI (by omega) (by decide), nm_r hcx ?_⟩
    rcases ht with z | ⟨j, j1, rfl⟩
    · exact br_f (Int32.not_le.mpr z) (k0 z gK gA gB cl nC Z)
    · refine br_t (nI_pos' (by omega)) ⟨vp_in_nI (by omega) (by decide), ?_⟩
      rw [nI_clamp (show j < 2 ^ 31 by omega), c2 j (by omega)]
      have := ty_C_lo hT.1 c1 j1
      exact k1 j j1 rfl gK gA gB cl nC Z (c j) this.1 this.2.1 this.2.2
  unfold wpX_typeAt
  refine br_f g1 (br_f g2 ?_)
  refine wx_isDecl hd (fun z => absurd z hdd) (fun _ => ?_)
  refine br_f nu_10 ⟨vp_in_nI hd (by decide), ?_⟩
  rw [e1, D.2.2.1]
  refine wx_in1 hq ?_
  refine br_f nu_10 ?_
  refine wx_in1 (N := 6) hx ?_
  refine br_f nu_10 (br_c (fun z => ?_) (fun _ => F))
  rcases g3 z with w | ⟨w1, w2⟩
  · exact br_f (Int32.not_lt.mpr (Int32.le_of_lt w)) (br_f (fun p => by rw [p] at w; exact Int32.lt_irrefl w) F)
  · exact br_f (by rw [w1]; exact Int32.lt_irrefl) (br_t w1 (br_t w2 F))
theorem wx_typeAt0 {post : Int32 → SX → Prop} {v1 v2 v3 : Int32} (hD : DA T dd dp dl dm cO cA cB cC) (G : ¬ ∃ d n l q x, tq T dd dp dl dm cO cA cB cC vd eK eD eP v1 v2 v3 d n l q x) (k : post (-2) (nI T, pR, cH, cP, stl, cD, vd, eK, eD, eP, stt, oC, tk, sa, sb, gK, gA, gB, cl, nC, dd, dp, dl, dm, pt, cO, cA, cB, cC, cx, cu, st, pd, pp, pa, pf, pv, es, ew, qh, qc, qk, qv, ou, cm)) : wpX_typeAt post (nI T, pR, cH, cP, stl, cD, vd, eK, eD, eP, stt, oC, tk, sa, sb, gK, gA, gB, cl, nC, dd, dp, dl, dm, pt, cO, cA, cB, cC, cx, cu, st, pd, pp, pa, pf, pv, es, ew, qh, qc, qk, qv, ou, cm) v1 v2 v3 := by
  unfold wpX_typeAt
  refine br_c (fun _ => k) (fun g1 => br_c (fun _ => k) (fun g2 => ?_))
  rcases nu_cs v1 6 (by omega) with ⟨d, d1, rfl⟩ | n1
  · have e1 : (nI d).toNatClampNeg = d := nI_clamp (by omega)
    refine wx_isDecl d1 (fun z => br_t rfl k) (fun z => br_f nu_10 ⟨vp_in_nI d1 (by decide), ?_⟩)
    obtain ⟨n, l, D⟩ := hD d d1 z
    have l24 := D.2.2.2.1
    rw [e1, D.2.2.1]
    rcases nu_cs v2 l (by omega) with ⟨q, q1, rfl⟩ | n2
    · refine wx_in1 q1 ?_
      refine br_f nu_10 ?_
      rcases nu_cs v3 6 (by omega) with ⟨x, x1, rfl⟩ | n3
      · refine wx_in1 (N := 6) x1 ?_
        refine br_f nu_10 ?_
        have no : ¬ (vd = 3 → nI d < eD ∨ (nI d = eD ∧ nI q ≤ eP)) := fun g3 => G ⟨d, n, l, q, x, g1, g2, d1, z, D, q1, x1, rfl, rfl, rfl, g3⟩
        refine br_c (fun y => br_c (fun _ => k) (fun w => br_c (fun p => br_c (fun r => absurd (fun _ => Or.inr ⟨p, r⟩) no) (fun _ => k)) (fun p => absurd (fun _ => Or.inl (Int32.lt_of_le_of_ne (Int32.not_lt.mp w) p)) no))) (fun y => absurd (fun p => absurd p y) no)
      · refine wx_in0 (N := 6) n3 ?_
        exact br_t rfl k
    · refine wx_in0 n2 ?_
      exact br_t rfl k
  · refine wx_isDecl0 n1 ?_
    exact br_t rfl k
theorem wy_typeAt {post : Int32 → SY → Prop} {v1 v2 v3 : Int32} {d n l q x : Nat} (G : tq T dd dp dl dm cO cA cB cC vd eK eD eP v1 v2 v3 d n l q x) (hT : zt T K A B tk sa sb cl stl) (hD : zd T dd dp dl dm pt cO cA cB cC cd cD) (Z : ∀ v, 6 ≤ v → ct v = 0) (Gp : gp T K A B dd dp pt cO cA cB cC d n l q) {t : Int32} (hcx : cy T K A B pt cO cA cB cC d n l q x = t)
    (k0 : t < 0 → ∀ eq du nx ct : Nat → Int32, (∀ v, 6 ≤ v → ct v = 0) → post (-1) (nI T, pR, cH, cP, cD, vd, eK, eD, eP, stt, mC, oC, tk, sa, sb, eq, du, nx, dd, dp, dl, dm, pt, cd, ct, st, yd, yp, ya, yf, hel, mT, mK, mV, ou, eu, ev))
    (k1 : ∀ j, j < T → t = nI j → ∀ (eq du nx ct : Nat → Int32), (∀ v, 6 ≤ v → ct v = 0) → ∀ u, u < T → ty_E K A B j u → (∀ w, w < u → ¬ ty_E K A B j w) → post (nI u) (nI T, pR, cH, cP, cD, vd, eK, eD, eP, stt, mC, oC, tk, sa, sb, eq, du, nx, dd, dp, dl, dm, pt, cd, ct, st, yd, yp, ya, yf, hel, mT, mK, mV, ou, eu, ev)) (ht : t < 0 ∨ ∃ j, j < T ∧ t = nI j) : wpY_typeAt post (nI T, pR, cH, cP, cD, vd, eK, eD, eP, stt, mC, oC, tk, sa, sb, eq, du, nx, dd, dp, dl, dm, pt, cd, ct, st, yd, yp, ya, yf, hel, mT, mK, mV, ou, eu, ev) v1 v2 v3 := by
  obtain ⟨g1, g2, hd, hdd, D, hq, hx, rfl, rfl, rfl, g3⟩ := G
  have e1 : (nI d).toNatClampNeg = d := nI_clamp (by omega)
  have l24 := D.2.2.2.1
  have T2 := hT.1.2.1
  have F : wY_typeAt_99 post (nI d) (nI q) (nI x) (nI T) pR cH cP cD vd eK eD eP stt mC oC tk sa sb eq du nx dd dp dl dm pt cd ct st yd yp ya yf hel mT mK mV ou eu ev := by
    unfold wY_typeAt_99
    refine wy_relate hT.1 hT.2.1 (fun eq du nx q1 q2 => ?_)
    have hy : yr T K A B tk sa sb eq du pt dp := ⟨hT.1, hT.2.1, q1, q2, hD.1, hD.2.1⟩
    refine wy_context hy hd D hD.2.2.2.1 hq Gp Z ?_
    have hcv := cv_cy (dd := dd) hT.1 hD.1 hd D q q (Nat.le_refl _) hq Gp
    rcases ht with z | ⟨j, j1, rfl⟩
    · exact ⟨T + 1, wy_ta112n T2 hx (by rw [hcx]; exact z) (k0 z eq du nx _ hcv.2) (T + 1) 0 (by omega) (by omega)⟩
    · exact ⟨j + 1, wy_ta112 q1 T2 hx j1 hcx (fun u a b c => k1 j j1 rfl eq du nx _ hcv.2 u a b c) (j + 1) 0 (by omega) (by omega) (fun w hw => absurd hw (Nat.not_lt_zero w))⟩
  unfold wpY_typeAt
  refine br_f g1 (br_f g2 ?_)
  refine wy_in1 (N := 6) hd ?_
  refine br_f nu_10 ?_
  refine wy_in1 (N := 6) hx ?_
  refine br_f nu_10 ⟨vp_in_nI hd (by decide), ?_⟩
  rw [e1, D.2.2.1]
  refine br_f hdd ⟨vp_in_nI hd (by decide), ?_⟩
  refine wy_in1 hq ?_
  refine br_f nu_10 (br_c (fun z => ?_) (fun _ => F))
  rcases g3 z with w | ⟨w1, w2⟩
  · exact br_f (Int32.not_lt.mpr (Int32.le_of_lt w)) (br_f (fun p => by rw [p] at w; exact Int32.lt_irrefl w) F)
  · exact br_f (by rw [w1]; exact Int32.lt_irrefl) (br_t w1 (br_t w2 F))
theorem wy_typeAt0 {post : Int32 → SY → Prop} {v1 v2 v3 : Int32} (hD : DA T dd dp dl dm cO cA cB cC) (G : ¬ ∃ d n l q x, tq T dd dp dl dm cO cA cB cC vd eK eD eP v1 v2 v3 d n l q x) (k : post (-2) (nI T, pR, cH, cP, cD, vd, eK, eD, eP, stt, mC, oC, tk, sa, sb, eq, du, nx, dd, dp, dl, dm, pt, cd, ct, st, yd, yp, ya, yf, hel, mT, mK, mV, ou, eu, ev)) : wpY_typeAt post (nI T, pR, cH, cP, cD, vd, eK, eD, eP, stt, mC, oC, tk, sa, sb, eq, du, nx, dd, dp, dl, dm, pt, cd, ct, st, yd, yp, ya, yf, hel, mT, mK, mV, ou, eu, ev) v1 v2 v3 := by
  unfold wpY_typeAt
  refine br_c (fun _ => k) (fun g1 => br_c (fun _ => k) (fun g2 => ?_))
  rcases nu_cs v1 6 (by omega) with ⟨d, d1, rfl⟩ | n1
  · have e1 : (nI d).toNatClampNeg = d := nI_clamp (by omega)
    refine wy_in1 (N := 6) d1 ?_
    refine br_f nu_10 ?_
    rcases nu_cs v3 6 (by omega) with ⟨x, x1, rfl⟩ | n3
    · refine wy_in1 (N := 6) x1 ?_
      refine br_f nu_10 ⟨vp_in_nI d1 (by decide), ?_⟩
      rw [e1]
      refine br_c (fun _ => k) (fun z => ⟨vp_in_nI d1 (by decide), ?_⟩)
      obtain ⟨n, l, D⟩ := hD d d1 z
      have l24 := D.2.2.2.1
      rw [D.2.2.1]
      rcases nu_cs v2 l (by omega) with ⟨q, q1, rfl⟩ | n2
      · refine wy_in1 q1 ?_
        refine br_f nu_10 ?_
        have no : ¬ (vd = 3 → nI d < eD ∨ (nI d = eD ∧ nI q ≤ eP)) := fun g3 => G ⟨d, n, l, q, x, g1, g2, d1, z, D, q1, x1, rfl, rfl, rfl, g3⟩
        refine br_c (fun y => br_c (fun _ => k) (fun w => br_c (fun p => br_c (fun r => absurd (fun _ => Or.inr ⟨p, r⟩) no) (fun _ => k)) (fun p => absurd (fun _ => Or.inl (Int32.lt_of_le_of_ne (Int32.not_lt.mp w) p)) no))) (fun y => absurd (fun p => absurd p y) no)
      · refine wy_in0 n2 ?_
        exact br_t rfl k
    · refine wy_in0 (N := 6) n3 ?_
      exact br_t rfl k
  · refine wy_in0 (N := 6) n1 ?_
    exact br_t rfl k
end TAT
theorem i_vc_typeAt {k : Nat} {u : SX} {v : SY} (I : i_Rel k u v) (hk : k + 5 ≤ 2564) (v1 : Int32) (v2 : Int32) (v3 : Int32) : wpX_typeAt (fun r u' => wpY_typeAt (fun r' v' => r' = r ∧ i_Rel (k + 5) u' v') v v1 v2 v3) u v1 v2 v3 := by
  refine zz_el (R := fun u v => wpX_typeAt (fun r u' => wpY_typeAt (fun r' v' => r' = r ∧ i_Rel (k + 5) u' v') v v1 v2 v3) u v1 v2 v3) ?_ I
  intro T P C Q O K A B L stl cD vd eK eD eP stt tk sa sb gK gA gB cl nC dd dp dl dm pt cO cA cB cC cx cu st pd pp pa pf pv es ew qh qc qk qv ou cm eq du nx cd ct yd yp ya yf hel mT mK mV eu ev hS hT hD hV hR
  have J : i_Rel (k + 5) (nI T, nI P, nI C, nI Q, stl, cD, vd, eK, eD, eP, stt, nI O, tk, sa, sb, gK, gA, gB, cl, nC, dd, dp, dl, dm, pt, cO, cA, cB, cC, cx, cu, st, pd, pp, pa, pf, pv, es, ew, qh, qc, qk, qv, ou, cm) (nI T, nI P, nI C, nI Q, cD, vd, eK, eD, eP, stt, nI L.length, nI O, tk, sa, sb, eq, du, nx, dd, dp, dl, dm, pt, cd, ct, st, yd, yp, ya, yf, hel, mT, mK, mV, ou, eu, ev) := zz_in hS hT hD hV hR
  by_cases G : ∃ d n l q x, tq T dd dp dl dm cO cA cB cC vd eK eD eP v1 v2 v3 d n l q x
  · obtain ⟨d, n, l, q, x, G⟩ := G
    obtain ⟨g1, g2, hd, hdd, D, hq, hx, e1, e2, e3, g3⟩ := G
    have g3' : vd = 3 → nI d < eD ∨ (nI d = eD ∧ nI q ≤ eP) := by rw [← e1, ← e2]; exact g3
    have G : tq T dd dp dl dm cO cA cB cC vd eK eD eP v1 v2 v3 d n l q x := ⟨g1, g2, hd, hdd, D, hq, hx, e1, e2, e3, g3⟩
    obtain ⟨Gp, hcx⟩ := hV.1 g1 g2 d hd hdd n l D q hq g3'
    have hcv := cv_cy (dd := dd) hT.1 hD.1 hd D q q (Nat.le_refl _) hq Gp
    have ht : cy T K A B pt cO cA cB cC d n l q x < 0 ∨ ∃ j, j < T ∧ cy T K A B pt cO cA cB cC d n l q x = nI j := by
      rcases hcv.1 x hx with z | z
      · left; rw [z]; exact nu_m1lt
      · exact Or.inr z
    have T2 := hT.1.2.1
    refine wx_typeAt G hT (hcx x hx) (fun z gK gA gB cl nC zt0 => ?_) (fun j j1 ej gK gA gB cl nC zt0 a a1 a2 a3 => ?_) ht
    · exact wy_typeAt G hT hD hV.2.2 Gp rfl (fun _ eq du nx ct Z => ⟨rfl, zz_in hS zt0 hD ⟨hV.1, hV.2.1, Z⟩ hR⟩) (fun j j1 ej => absurd z (by rw [ej]; exact nI_pos (by omega))) ht
    · refine wy_typeAt G hT hD hV.2.2 Gp rfl (fun z => absurd z (by rw [ej]; exact nI_pos (by omega))) (fun j' j1' ej' eq du nx ct Z b b1 b2 b3 => ⟨?_, zz_in hS zt0 hD ⟨hV.1, hV.2.1, Z⟩ hR⟩) ht
      have : j' = j := (nI_eq (by omega) (by omega)).mp (ej'.symm.trans ej)
      subst this
      rcases Nat.lt_trichotomy a b with p | p | p
      · exact absurd a2 (b3 a p)
      · rw [p]
      · exact absurd b2 (a3 b p)
  · exact wx_typeAt0 hD.2.2.1 G (wy_typeAt0 hD.2.2.1 G ⟨rfl, J⟩)
end
section
section STA
variable {tY pR cH cP stl cD vd eK eD eP stt oC mC : Int32} {tk sa sb gK gA gB cl nC dd dp dl dm pt cO cA cB cC cx cu st pd pp pa pf pv es ew qh qc qk qv ou cm eq du nx cd ct yd yp ya yf hel mT mK mV eu ev : Nat → Int32}
variable {T P C Q O : Nat} {K A B : Nat → Nat} {L : List MG}
theorem wx_st22 {post : Int32 → SX → Prop} (kn : (¬ ∀ d, d < 6 → ¬ dd d = 0 → dm d = 0) → post (-1) (tY, pR, cH, cP, stl, cD, vd, eK, eD, eP, stt, oC, tk, sa, sb, gK, gA, gB, cl, nC, dd, dp, dl, dm, pt, cO, cA, cB, cC, cx, cu, st, pd, pp, pa, pf, pv, es, ew, qh, qc, qk, qv, ou, cm)) (ky : (∀ d, d < 6 → ¬ dd d = 0 → dm d = 0) → wpX_clearRun (fun u => match u with | (tY, pR, cH, cP, stl, cD, vd, eK, eD, eP, stt, oC, tk, sa, sb, gK, gA, gB, cl, nC, dd, dp, dl, dm, pt, cO, cA, cB, cC, cx, cu, st, pd, pp, pa, pf, pv, es, ew, qh, qc, qk, qv, ou, cm) => (∀ q : Nat → Int32, q = upd st 0 1 → (post 0 (tY, pR, cH, cP, stl, cD, vd, eK, eD, eP, 1, oC, tk, sa, sb, gK, gA, gB, cl, nC, dd, dp, dl, dm, pt, cO, cA, cB, cC, cx, cu, q, pd, pp, pa, pf, pv, es, ew, qh, qc, qk, qv, ou, cm)))) (tY, pR, cH, cP, stl, cD, vd, eK, eD, eP, stt, oC, tk, sa, sb, gK, gA, gB, cl, nC, dd, dp, dl, dm, pt, cO, cA, cB, cC, cx, cu, st, pd, pp, pa, pf, pv, es, ew, qh, qc, qk, qv, ou, cm)) :
    ∀ n d, d ≤ 6 → 6 < n + d → (∀ e, e < d → ¬ dd e = 0 → dm e = 0) → wX_start_22 post tY pR cH cP stl cD vd eK eD eP stt oC tk sa sb gK gA gB cl nC dd dp dl dm pt cO cA cB cC cx cu st pd pp pa pf pv es ew qh qc qk qv ou cm n (nI d) := by
  intro n
  induction n with
  | zero => intro d h1 h2; omega
  | succ n ih =>
    intro d h1 h2 I
    by_cases h : d = 6
    · subst h; exact br_t (nI_le (a := 6) (b := 6) (by omega) (by decide)) (ky I)
    · have e1 : (nI d).toNatClampNeg = d := nI_clamp (by omega)
      have i1 : vp_in (nI d) 6 := vp_in_nI (by omega) (by decide)
      refine br_f (nI_ge (b := 6) (by omega) (by decide)) ⟨i1, ?_⟩
      rw [e1]
      refine br_c (fun z => nm_r (nI_1 d) (ih (d + 1) (by omega) (by omega) (fun e he hn => ?_))) (fun z => ⟨i1, br_c (fun y => nm_r (nI_1 d) (ih (d + 1) (by omega) (by omega) (fun e he hn => ?_))) (fun y => kn (fun q => y (q d (by omega) z)))⟩)
      · by_cases q : e = d
        · rw [q] at hn; exact absurd z hn
        · exact I e (by omega) hn
      · by_cases q : e = d
        · rw [q]; exact y
        · exact I e (by omega) hn
theorem wy_st22 {post : Int32 → SY → Prop} (kn : (¬ ∀ d, d < 6 → ¬ dd d = 0 → dm d = 0) → post (-1) (tY, pR, cH, cP, cD, vd, eK, eD, eP, stt, mC, oC, tk, sa, sb, eq, du, nx, dd, dp, dl, dm, pt, cd, ct, st, yd, yp, ya, yf, hel, mT, mK, mV, ou, eu, ev)) (ky : (∀ d, d < 6 → ¬ dd d = 0 → dm d = 0) → post 0 (tY, pR, cH, cP, cD, vd, eK, eD, eP, 1, 0, 0, tk, sa, sb, eq, du, nx, dd, dp, dl, dm, pt, cd, ct, upd (fw st 0 6 (fun _ => 0)) 0 1, upd yd 0 0, upd yp 0 0, upd ya 0 0, upd yf 0 0, fw hel 0 36 (fun _ => -1), mT, mK, mV, ou, eu, ev)) :
    ∀ n d, d ≤ 6 → 6 < n + d → (∀ e, e < d → ¬ dd e = 0 → dm e = 0) → wY_start_22 post tY pR cH cP cD vd eK eD eP stt mC oC tk sa sb eq du nx dd dp dl dm pt cd ct st yd yp ya yf hel mT mK mV ou eu ev n (nI d) := by
  intro n
  induction n with
  | zero => intro d h1 h2; omega
  | succ n ih =>
    intro d h1 h2 I
    by_cases h : d = 6
    · subst h
      refine br_t (nI_le (a := 6) (b := 6) (by omega) (by decide)) ?_
      refine wy_forgetRun ?_
      exact nm_e (nm_e (nm_e (nm_e (nm_e (ky I)))))
    · have e1 : (nI d).toNatClampNeg = d := nI_clamp (by omega)
      have i1 : vp_in (nI d) 6 := vp_in_nI (by omega) (by decide)
      refine br_f (nI_ge (b := 6) (by omega) (by decide)) ⟨i1, ?_⟩
      rw [e1]
      refine br_c (fun z => nm_r (nI_1 d) (ih (d + 1) (by omega) (by omega) (fun e he hn => ?_))) (fun z => ⟨i1, br_c (fun y => nm_r (nI_1 d) (ih (d + 1) (by omega) (by omega) (fun e he hn => ?_))) (fun y => kn (fun q => y (q d (by omega) z)))⟩)
      · by_cases q : e = d
        · rw [q] at hn; exact absurd z hn
        · exact I e (by omega) hn
      · by_cases q : e = d
        · rw [q]; exact y
        · exact I e (by omega) hn
theorem zr_start (hS : zs P C Q O) (hD : zd T dd dp dl dm pt cO cA cB cC cd cD) (hst : ∀ p, P ≤ p → st p = 0) (h0 : ¬ dd 0 = 0) (hm : ∀ d, d < 6 → ¬ dd d = 0 → dm d = 0) :
    zr T P C Q [] 1 dd dp dl dm cO cA cB cC (upd (fun _ => 0) 0 1) (fw pd 0 P (fun _ => 0)) (fw pp 0 P (fun _ => 0)) (fw pa 0 P (fun _ => 0)) (fw pf 0 P (fun _ => 0)) (fw pv 0 (P * 6) (fun _ => -1)) (upd yd 0 0) (upd yp 0 0) (upd ya 0 0) (upd yf 0 0) (fw hel 0 36 (fun _ => -1)) (fw es 0 (2 * C) (fun _ => 0)) (fw ew 0 (2 * C) (fun _ => -1)) (fw qh 0 (2 * C) (fun _ => 0)) (fw qc 0 (2 * C) (fun _ => 0)) qk qv mT mK mV := by
  have Z := zz_clr (T := T) (dd := dd) (dp := dp) (dl := dl) (dm := dm) (cO := cO) (cA := cA) (cB := cB) (cC := cC) (pd := pd) (pp := pp) (pa := pa) (pf := pf) (pv := pv) (yd := yd) (yp := yp) (ya := ya) (yf := yf) (hel := hel) (es := es) (ew := ew) (qh := qh) (qc := qc) (qk := qk) (qv := qv) (mT := mT) (mK := mK) (mV := mV) hS hst
  obtain ⟨s1, s2, s3, s4, s5, s6, s7⟩ := hS
  have at0 : ∀ a : Nat → Int32, fw a 0 P (fun _ => 0) 0 = 0 := fun a => by
    have := fw_at (a := a) (lo := 0) (n := P) (f := fun _ => 0) (i := 0) (by omega)
    exact this
  have one : ∀ p, ¬ upd (fun _ => (0 : Int32)) 0 1 p = 0 → p = 0 := fun p h => by
    by_cases q : p = 0
    · exact q
    · rw [pk_un q] at h; exact absurd rfl h
  refine ⟨Z.1, fun p hp => by rw [pk_un (by omega)], fun p hp h => ?_, fun p hp h v hv => ?_, fun _ => ⟨hm, fun p hp h => ?_⟩⟩
  · have := one p h
    subst this
    rw [at0, at0, at0, at0, pk_us, pk_us, pk_us, pk_us]
    exact ⟨rfl, rfl, rfl, rfl⟩
  · have := fw_at (a := hel) (lo := 0) (n := 36) (f := fun _ => -1) (i := p * 6 + v) (by omega)
    rw [Nat.zero_add] at this
    exact this
  · have := one p (by rw [h]; exact nu_10)
    subst this
    obtain ⟨n, l, D⟩ := hD.2.2.1 0 (by omega) h0
    have m0 := hm 0 (by omega) h0
    have ml : tm_M (dop cO 0) l = 0 := by
      have := D.2.2.2.2.1
      rw [m0] at this
      have b := tm_M_le (op := dop cO 0) l
      have l24 := D.2.2.2.1
      exact ((nI_eq (a := 0) (by omega) (by omega)).mp this).symm
    exact ⟨0, 0, n, l, by omega, h0, D, m0, at0 _, at0 _, tm_full_0 ml⟩
end STA
theorem i_vc_start {k : Nat} {u : SX} {v : SY} (I : i_Rel k u v) (hk : k + 5 ≤ 2564) : wpX_start (fun r u' => wpY_start (fun r' v' => r' = r ∧ i_Rel (k + 5) u' v') v) u := by
  refine zz_el (R := fun u v => wpX_start (fun r u' => wpY_start (fun r' v' => r' = r ∧ i_Rel (k + 5) u' v') v) u) ?_ I
  intro T P C Q O K A B L stl cD vd eK eD eP stt tk sa sb gK gA gB cl nC dd dp dl dm pt cO cA cB cC cx cu st pd pp pa pf pv es ew qh qc qk qv ou cm eq du nx cd ct yd yp ya yf hel mT mK mV eu ev hS hT hD hV hR
  have J : i_Rel (k + 5) (nI T, nI P, nI C, nI Q, stl, cD, vd, eK, eD, eP, stt, nI O, tk, sa, sb, gK, gA, gB, cl, nC, dd, dp, dl, dm, pt, cO, cA, cB, cC, cx, cu, st, pd, pp, pa, pf, pv, es, ew, qh, qc, qk, qv, ou, cm) (nI T, nI P, nI C, nI Q, cD, vd, eK, eD, eP, stt, nI L.length, nI O, tk, sa, sb, eq, du, nx, dd, dp, dl, dm, pt, cd, ct, st, yd, yp, ya, yf, hel, mT, mK, mV, ou, eu, ev) := zz_in hS hT hD hV hR
  obtain ⟨n0, n6, hn0⟩ := hD.2.1 0 (by omega)
  by_cases h0 : dd 0 = 0
  · exact br_t h0 (br_t h0 ⟨rfl, J⟩)
  · refine br_f h0 ?_
    by_cases h1 : n0 = 0
    · subst h1
      refine br_t hn0 ⟨7, ?_⟩
      have Y : ∀ (post : Int32 → SY → Prop), ((¬ ∀ d, d < 6 → ¬ dd d = 0 → dm d = 0) → post (-1) (nI T, nI P, nI C, nI Q, cD, vd, eK, eD, eP, stt, nI L.length, nI O, tk, sa, sb, eq, du, nx, dd, dp, dl, dm, pt, cd, ct, st, yd, yp, ya, yf, hel, mT, mK, mV, ou, eu, ev)) → ((∀ d, d < 6 → ¬ dd d = 0 → dm d = 0) → post 0 (nI T, nI P, nI C, nI Q, cD, vd, eK, eD, eP, 1, 0, 0, tk, sa, sb, eq, du, nx, dd, dp, dl, dm, pt, cd, ct, upd (fw st 0 6 (fun _ => 0)) 0 1, upd yd 0 0, upd yp 0 0, upd ya 0 0, upd yf 0 0, fw hel 0 36 (fun _ => -1), mT, mK, mV, ou, eu, ev)) → wpY_start post (nI T, nI P, nI C, nI Q, cD, vd, eK, eD, eP, stt, nI L.length, nI O, tk, sa, sb, eq, du, nx, dd, dp, dl, dm, pt, cd, ct, st, yd, yp, ya, yf, hel, mT, mK, mV, ou, eu, ev) := fun post kn ky =>
        br_f h0 (br_t (by rw [hn0]; decide) ⟨7, wy_st22 kn ky 7 0 (by omega) (by omega) (fun e he => absurd he (Nat.not_lt_zero e))⟩)
      refine wx_st22 (fun q => Y _ (fun _ => ⟨rfl, J⟩) (fun p => absurd p q)) (fun q => ?_) 7 0 (by omega) (by omega) (fun e he => absurd he (Nat.not_lt_zero e))
      refine wx_clearRun hS.2.1 hS.2.2.2.1 ?_
      refine nm_e (Y _ (fun p => absurd q p) (fun _ => ⟨rfl, ?_⟩))
      have hst := hR.2.1
      rw [fw_c0 hst, fw_c0 (fun p hp => hst p (by have := hS.2.1; omega))]
      exact zz_in (O := 0) (L := []) ⟨hS.1, hS.2.1, hS.2.2.1, hS.2.2.2.1, hS.2.2.2.2.1, hS.2.2.2.2.2.1, by omega⟩ hT hD hV (zr_start hS hD hst h0 q)
    · refine br_f (fun q => h1 ?_) (br_f h0 (br_f (fun q => h1 ?_) ⟨rfl, J⟩))
      · rw [hn0] at q; exact (nI_eq (b := 0) (by omega) (by omega)).mp q
      · rw [hn0] at q; exact (nu_le0 (by omega)).mp q
section PIN
variable {tY pR cH cP stl cD vd eK eD eP stt oC mC : Int32} {tk sa sb gK gA gB cl nC dd dp dl dm pt cO cA cB cC cx cu st pd pp pa pf pv es ew qh qc qk qv ou cm eq du nx cd ct yd yp ya yf hel mT mK mV eu ev : Nat → Int32}
variable {T P C Q O : Nat} {K A B : Nat → Nat} {L : List MG}
/-- what procInfo answers -/
def piv (st pd pp pa pf pv : Nat → Int32) (p f : Nat) : Int32 := if f = 0 then st p else if st p = 0 then -1 else if f = 1 then pd p else if f = 2 then pp p else if f = 3 then pa p else if f = 4 then pf p else pv (p * 6 + f - 5)
theorem wx_procInfo {post : Int32 → Prop} {p f : Nat} (hp : p < P) (hP : P ≤ 6) (hf : f < 11) (k : post (piv st pd pp pa pf pv p f)) : wpX_procInfo post (tY, nI P, cH, cP, stl, cD, vd, eK, eD, eP, stt, oC, tk, sa, sb, gK, gA, gB, cl, nC, dd, dp, dl, dm, pt, cO, cA, cB, cC, cx, cu, st, pd, pp, pa, pf, pv, es, ew, qh, qc, qk, qv, ou, cm) (nI p) (nI f) := by
  have e1 : (nI p).toNatClampNeg = p := nI_clamp (by omega)
  have i1 : vp_in (nI p) 6 := vp_in_nI (by omega) (by decide)
  unfold wpX_procInfo
  refine wx_in1 hp ?_
  refine br_f nu_10 ?_
  refine wx_in1 (N := 11) hf ?_
  refine br_f nu_10 ?_
  rw [e1]
  unfold piv at k
  refine pk_eq f 0 (fun z => ⟨i1, ?_⟩) (fun z0 => ⟨i1, br_c (fun y => ?_) (fun y => ?_)⟩)
  · rw [if_pos z] at k; exact k
  · rw [if_neg z0, if_pos y] at k; exact k
  · rw [if_neg z0, if_neg y] at k
    refine pk_lt f 1 (fun z => by omega) (fun z1 => pk_lt 4 f (fun z4 => ?_) (fun z4 => pk_eq f 1 (fun z => ⟨i1, ?_⟩) (fun y1 => pk_eq f 2 (fun z => ⟨i1, ?_⟩) (fun y2 => pk_eq f 3 (fun z => ⟨i1, ?_⟩) (fun y3 => pk_eq f 4 (fun z => ⟨i1, ?_⟩) (fun y4 => by omega))))))
    · rw [if_neg (by omega), if_neg (by omega), if_neg (by omega), if_neg (by omega)] at k
      have e3 : nI p * 6 + nI f - 5 = nI (p * 6 + f - 5) := by
        rw [nu_m6, nI_add]; exact pk_sub (b := 5) (by omega)
      rw [e3, nI_clamp (show p * 6 + f - 5 < 2 ^ 31 by omega)]
      exact ⟨vp_in_nI (by omega) (by decide), k⟩
    · rw [if_pos z] at k; exact k
    · rw [if_neg y1, if_pos z] at k; exact k
    · rw [if_neg y1, if_neg y2, if_pos z] at k; exact k
    · rw [if_neg y1, if_neg y2, if_neg y3, if_pos z] at k; exact k
theorem wy_procInfo {post : Int32 → Prop} {p f : Nat} (hp : p < P) (hP : P ≤ 6) (hf : f < 11) (k : post (piv st yd yp ya yf hel p f)) : wpY_procInfo post (tY, nI P, cH, cP, cD, vd, eK, eD, eP, stt, mC, oC, tk, sa, sb, eq, du, nx, dd, dp, dl, dm, pt, cd, ct, st, yd, yp, ya, yf, hel, mT, mK, mV, ou, eu, ev) (nI p) (nI f) := by
  have e1 : (nI p).toNatClampNeg = p := nI_clamp (by omega)
  have i1 : vp_in (nI p) 6 := vp_in_nI (by omega) (by decide)
  unfold wpY_procInfo
  refine wy_in1 hp ?_
  refine br_f nu_10 (br_f (nI_pos (by omega)) (br_t (nI_le (b := 10) (by omega) (by omega)) ?_))
  rw [e1]
  unfold piv at k
  refine pk_eq f 0 (fun z => ⟨i1, ?_⟩) (fun z0 => ⟨i1, br_c (fun y => ?_) (fun y => ?_)⟩)
  · rw [if_pos z] at k; exact k
  · rw [if_neg z0, if_pos y] at k; exact k
  · rw [if_neg z0, if_neg y] at k
    refine pk_lt f 5 (fun z5 => pk_eq f 1 (fun z => ⟨i1, ?_⟩) (fun y1 => pk_eq f 2 (fun z => ⟨i1, ?_⟩) (fun y2 => pk_eq f 3 (fun z => ⟨i1, ?_⟩) (fun y3 => ⟨i1, ?_⟩)))) (fun z5 => ?_)
    · rw [if_pos z] at k; exact k
    · rw [if_neg y1, if_pos z] at k; exact k
    · rw [if_neg y1, if_neg y2, if_pos z] at k; exact k
    · rw [if_neg y1, if_neg y2, if_neg y3, if_pos (by omega)] at k; exact k
    · rw [if_neg (by omega), if_neg (by omega), if_neg (by omega), if_neg (by omega)] at k
      have e3 : nI p * 6 + nI f - 5 = nI (p * 6 + f - 5) := by
        rw [nu_m6, nI_add]; exact pk_sub (b := 5) (by omega)
      rw [e3, nI_clamp (show p * 6 + f - 5 < 2 ^ 31 by omega)]
      exact ⟨vp_in_nI (by omega) (by decide), k⟩
end PIN
theorem i_vc_procInfo {k : Nat} {u : SX} {v : SY} (I : i_Rel k u v) (hk : k + 5 ≤ 2564) (v1 : Int32) (v2 : Int32) : wpX_procInfo (fun r => wpY_procInfo (fun r' => r' = r ∧ i_Rel (k + 5) u v) v v1 v2) u v1 v2 := by
  refine zz_el (R := fun u v => wpX_procInfo (fun r => wpY_procInfo (fun r' => r' = r ∧ i_Rel (k + 5) u v) v v1 v2) u v1 v2) ?_ I
  intro T P C Q O K A B L stl cD vd eK eD eP stt tk sa sb gK gA gB cl nC dd dp dl dm pt cO cA cB cC cx cu st pd pp pa pf pv es ew qh qc qk qv ou cm eq du nx cd ct yd yp ya yf hel mT mK mV eu ev hS hT hD hV hR
  have J : i_Rel (k + 5) (nI T, nI P, nI C, nI Q, stl, cD, vd, eK, eD, eP, stt, nI O, tk, sa, sb, gK, gA, gB, cl, nC, dd, dp, dl, dm, pt, cO, cA, cB, cC, cx, cu, st, pd, pp, pa, pf, pv, es, ew, qh, qc, qk, qv, ou, cm) (nI T, nI P, nI C, nI Q, cD, vd, eK, eD, eP, stt, nI L.length, nI O, tk, sa, sb, eq, du, nx, dd, dp, dl, dm, pt, cd, ct, st, yd, yp, ya, yf, hel, mT, mK, mV, ou, eu, ev) := zz_in hS hT hD hV hR
  have P6 := hS.2.1
  rcases nu_cs v1 P (by omega) with ⟨p, p1, rfl⟩ | n1
  · rcases nu_cs v2 11 (by omega) with ⟨f, f1, rfl⟩ | n2
    · refine wx_procInfo p1 P6 f1 (wy_procInfo p1 P6 f1 ⟨?_, J⟩)
      unfold piv
      by_cases z : f = 0
      · rw [if_pos z, if_pos z]
      · rw [if_neg z, if_neg z]
        by_cases y : st p = 0
        · rw [if_pos y, if_pos y]
        · obtain ⟨a1, a2, a3, a4⟩ := hR.2.2.1 p p1 y
          rw [if_neg y, if_neg y, a1, a2, a3, a4]
          by_cases w : f < 5
          · by_cases w1 : f = 1
            · rw [if_pos w1, if_pos w1]
            · by_cases w2 : f = 2
              · rw [if_neg w1, if_neg w1, if_pos w2, if_pos w2]
              · by_cases w3 : f = 3
                · rw [if_neg w1, if_neg w1, if_neg w2, if_neg w2, if_pos w3, if_pos w3]
                · rw [if_neg w1, if_neg w1, if_neg w2, if_neg w2, if_neg w3, if_neg w3, if_pos (by omega), if_pos (by omega)]
          · rw [if_neg (by omega), if_neg (by omega), if_neg (by omega), if_neg (by omega), if_neg (by omega), if_neg (by omega), if_neg (by omega), if_neg (by omega)]
            exact (hR.1.2.2.2.1 _ (by omega)).symm
    · unfold wpX_procInfo
      refine wx_in1 p1 ?_
      refine br_f nu_10 ?_
      refine wx_in0 (N := 11) n2 ?_
      refine br_t rfl ?_
      unfold wpY_procInfo
      refine wy_in1 p1 ?_
      refine br_f nu_10 (br_c (fun _ => ⟨rfl, J⟩) (fun z => br_f (fun q => ?_) ⟨rfl, J⟩))
      exact absurd q (Int32.not_le.mpr (nu_hx (N := 11) (by omega) z (n2.resolve_left z)))
  · unfold wpX_procInfo
    refine wx_in0 n1 ?_
    refine br_t rfl ?_
    unfold wpY_procInfo
    refine wy_in0 n1 ?_
    exact br_t rfl ⟨rfl, J⟩
end
section
section LOK
variable {tY pR cH cP stl cD vd eK eD eP stt oC mC : Int32} {tk sa sb gK gA gB cl nC dd dp dl dm pt cO cA cB cC cx cu st pd pp pa pf pv es ew qh qc qk qv ou cm eq du nx cd ct yd yp ya yf hel mT mK mV eu ev : Nat → Int32}
variable {T P C Q O : Nat} {K A B : Nat → Nat} {L : List MG}
/-! Y: where ends are, free channels and slots, queues; X: the same -/
theorem wy_ho2 {post : Int32 → Prop} {x : Int32} (k1 : ∀ i, i < 36 → hel i = x → post (nI (i / 6))) (k0 : (∀ i, i < 36 → ¬ hel i = x) → post (-1)) : ∀ n i, i ≤ 36 → 36 < n + i → (∀ j, j < i → ¬ hel j = x) → wY_holder_2 post x tY pR cH cP cD vd eK eD eP stt mC oC tk sa sb eq du nx dd dp dl dm pt cd ct st yd yp ya yf hel mT mK mV ou eu ev n (nI i) := by
  intro n
  induction n with
  | zero => intro i h1 h2; omega
  | succ n ih =>
    intro i h1 h2 I
    by_cases h : i = 36
    · subst h; exact br_t (nI_le (a := 36) (b := 36) (by omega) (by decide)) (k0 I)
    · refine br_f (nI_ge (b := 36) (by omega) (by decide)) ⟨vp_in_nI (by omega) (by decide), ?_⟩
      rw [nI_clamp (by omega)]
      refine br_c (fun z => ⟨by decide, ?_⟩) (fun z => nm_r (nI_1 i) (ih (i + 1) (by omega) (by omega) (fun j hj => ?_)))
      · have := k1 i (by omega) z
        rw [← pk_div (d := 6) (by omega) (by omega) (by omega)] at this
        exact this
      · by_cases q : j = i
        · rw [q]; exact z
        · exact I j (by omega)
theorem wy_holder {post : Int32 → Prop} {x : Int32} (k1 : ∀ i, i < 36 → hel i = x → post (nI (i / 6))) (k0 : (∀ i, i < 36 → ¬ hel i = x) → post (-1)) : wpY_holder post (tY, pR, cH, cP, cD, vd, eK, eD, eP, stt, mC, oC, tk, sa, sb, eq, du, nx, dd, dp, dl, dm, pt, cd, ct, st, yd, yp, ya, yf, hel, mT, mK, mV, ou, eu, ev) x :=
  ⟨37, wy_ho2 k1 k0 37 0 (by omega) (by omega) (fun j hj => absurd hj (Nat.not_lt_zero j))⟩
theorem ms_at {j : Nat} (h : j < L.length) : ∃ m, L[j]? = some m ∧ m ∈ L := ⟨L[j], List.getElem?_eq_getElem h, List.getElem_mem h⟩
theorem wy_ca2 {post : Int32 → Prop} {x : Int32} (hA : ms_A L mT mK mV) (h64 : L.length ≤ 64) (k1 : ∀ m, m ∈ L → m.2.1 = 2 → m.2.2 = x → post (nI m.1)) (k0 : (∀ m, m ∈ L → m.2.1 = 2 → ¬ m.2.2 = x) → post (-1)) :
    ∀ n i, i ≤ L.length → L.length < n + i → (∀ j m, j < i → L[j]? = some m → m.2.1 = 2 → ¬ m.2.2 = x) → wY_carrier_2 post x tY pR cH cP cD vd eK eD eP stt (nI L.length) oC tk sa sb eq du nx dd dp dl dm pt cd ct st yd yp ya yf hel mT mK mV ou eu ev n (nI i) := by
  intro n
  induction n with
  | zero => intro i h1 h2; omega
  | succ n ih =>
    intro i h1 h2 I
    by_cases h : i = L.length
    · subst h
      refine br_t (nI_le (Nat.le_refl _) (by omega)) (k0 (fun m hm => ?_))
      obtain ⟨j, hj, e⟩ := List.getElem_of_mem hm
      exact I j m hj (by rw [List.getElem?_eq_getElem hj, e])
    · obtain ⟨m, m1, m2⟩ := ms_at (L := L) (j := i) (by omega)
      obtain ⟨a1, a2, a3⟩ := hA i m m1
      have i1 : vp_in (nI i) 64 := vp_in_nI (by omega) (by decide)
      refine br_f (nI_ge (by omega) (by omega)) ⟨i1, ?_⟩
      rw [nI_clamp (by omega), a1, a2, a3]
      have nxt : (m.2.1 = 2 → ¬ m.2.2 = x) → ∀ j m', j < i + 1 → L[j]? = some m' → m'.2.1 = 2 → ¬ m'.2.2 = x := fun q j m' hj e => by
        by_cases p : j = i
        · rw [p, m1] at e
          have := Option.some.inj e
          rw [← this]; exact q
        · exact I j m' (by omega) e
      refine br_c (fun z => ⟨i1, br_c (fun y => ⟨i1, k1 m m2 z y⟩) (fun y => nm_r (nI_1 i) (ih (i + 1) (by omega) (by omega) (nxt (fun _ => y))))⟩) (fun z => nm_r (nI_1 i) (ih (i + 1) (by omega) (by omega) (nxt (fun q => absurd q z))))
theorem wy_carrier {post : Int32 → Prop} {x : Int32} (hA : ms_A L mT mK mV) (h64 : L.length ≤ 64) (k1 : ∀ m, m ∈ L → m.2.1 = 2 → m.2.2 = x → post (nI m.1)) (k0 : (∀ m, m ∈ L → m.2.1 = 2 → ¬ m.2.2 = x) → post (-1)) : wpY_carrier post (tY, pR, cH, cP, cD, vd, eK, eD, eP, stt, nI L.length, oC, tk, sa, sb, eq, du, nx, dd, dp, dl, dm, pt, cd, ct, st, yd, yp, ya, yf, hel, mT, mK, mV, ou, eu, ev) x :=
  ⟨L.length + 1, wy_ca2 hA h64 k1 k0 (L.length + 1) 0 (by omega) (by omega) (fun j m hj => absurd hj (Nat.not_lt_zero j))⟩
theorem re_li (R : re_R (2 * C) hel L es ew) {m : MG} (h : m ∈ L) : m.1 < 16 := by
  have := (R.2.2.1 m h).1; have := R.1.1; omega
/-- alive, by X's state -/
theorem wy_alive {post : Int32 → Prop} (R : re_R (2 * C) hel L es ew) (hA : ms_A L mT mK mV) (h64 : L.length ≤ 64) {e : Nat} (he : e < 2 * C) (k1 : (es e = 1 ∨ es e = 2) → post 1) (k0 : (es e = 3 ∨ es e = 0) → post 0) : wpY_alive post (tY, pR, cH, cP, cD, vd, eK, eD, eP, stt, nI L.length, oC, tk, sa, sb, eq, du, nx, dd, dp, dl, dm, pt, cd, ct, st, yd, yp, ya, yf, hel, mT, mK, mV, ou, eu, ev) (nI e) := by
  have E16 := R.1.1
  unfold wpY_alive
  refine wy_holder (fun i hi h => br_t (nI_pos' (by omega)) (k1 (Or.inl (re_of_hd R hi h (by omega)).2.1))) (fun h => br_f nu_m1le ?_)
  refine wy_carrier hA h64 (fun m hm h2 hv => br_f (nI_pos (by have := re_li R hm; omega)) (k1 (Or.inr ?_))) (fun q => br_t nu_m1lt (k0 ?_))
  · obtain ⟨f, f1, f2, f3, _⟩ := re_of_ms R hm h2
    have := re_inj (by omega) (by omega) (f2.symm.trans hv)
    rw [← this]; exact f3
  · rcases re_alive R he with ⟨_, a⟩ | ⟨a, _⟩
    · rcases a with a | a
      · obtain ⟨i, i1, i2⟩ := hn_ex 36 a
        exact absurd i2 (h i i1)
      · obtain ⟨m, m1, m2, m3⟩ := ms_c_pos L a
        exact absurd m3 (q m m1 m2)
    · exact a
theorem re_free (R : re_R (2 * C) hel L es ew) {c : Nat} (hc : c < C) (h : es (2 * c) = 0) : es (2 * c + 1) = 0 := by
  rcases R.2.2.2 (2 * c) (by omega) with q | q | q | q
  · exact absurd (h.symm.trans q.1) (by decide)
  · exact absurd (h.symm.trans q.1) (by decide)
  · exact absurd (h.symm.trans q.1) (by decide)
  · have := q.2.2.2.2.2; rw [pr_0] at this; exact this
theorem re_nfree (R : re_R (2 * C) hel L es ew) {c : Nat} (hc : c < C) (h : ¬ es (2 * c) = 0) : (es (2 * c) = 1 ∨ es (2 * c) = 2) ∨ (es (2 * c + 1) = 1 ∨ es (2 * c + 1) = 2) := by
  rcases R.2.2.2 (2 * c) (by omega) with q | q | q | q
  · exact Or.inl (Or.inl q.1)
  · exact Or.inl (Or.inr q.1)
  · have := q.2.2.2.2.2; rw [pr_0] at this; exact Or.inr this
  · exact absurd q.1 h
theorem wy_fc2 {post : Int32 → Prop} (R : re_R (2 * C) hel L es ew) (hA : ms_A L mT mK mV) (h64 : L.length ≤ 64) (k1 : ∀ c, c < C → es (2 * c) = 0 → (∀ j, j < c → ¬ es (2 * j) = 0) → post (nI c)) (k0 : (∀ c, c < C → ¬ es (2 * c) = 0) → post (-1)) :
    ∀ n c, c ≤ C → C < n + c → (∀ j, j < c → ¬ es (2 * j) = 0) → wY_freeChan_2 post tY pR (nI C) cP cD vd eK eD eP stt (nI L.length) oC tk sa sb eq du nx dd dp dl dm pt cd ct st yd yp ya yf hel mT mK mV ou eu ev n (nI c) := by
  have E16 := R.1.1
  intro n
  induction n with
  | zero => intro c h1 h2; omega
  | succ n ih =>
    intro c h1 h2 I
    by_cases h : c = C
    · subst h; exact br_t (nI_le (Nat.le_refl _) (by omega)) (k0 I)
    · refine br_f (nI_ge (by omega) (by omega)) ?_
      have ne : ¬ es (2 * c) = 0 → ∀ j, j < c + 1 → ¬ es (2 * j) = 0 := fun q j hj => by
        by_cases p : j = c
        · rw [p]; exact q
        · exact I j (by omega)
      rw [nu_2m, nI_1 (2 * c), nI_1 c]
      refine wy_alive (e := 2 * c) R hA h64 (show 2 * c < 2 * C by omega) (fun q => br_f nu_10 (nm_e ?_)) (fun q => br_t rfl ?_)
      · exact ih (c + 1) (by omega) (by omega) (ne (fun p => by rw [p] at q; rcases q with q | q <;> exact absurd q (by decide)))
      · refine wy_alive (e := 2 * c + 1) R hA h64 (show 2 * c + 1 < 2 * C by omega) (fun p => br_f nu_10 (nm_e ?_)) (fun p => br_t rfl ?_)
        · exact ih (c + 1) (by omega) (by omega) (ne (fun z => by rw [re_free R (by omega) z] at p; rcases p with p | p <;> exact absurd p (by decide)))
        · refine k1 c (by omega) ?_ I
          refine Classical.byContradiction (fun z => ?_)
          rcases re_nfree R (by omega) z with w | w
          · rcases w with w | w <;> rw [w] at q <;> rcases q with q | q <;> exact absurd q (by decide)
          · rcases w with w | w <;> rw [w] at p <;> rcases p with p | p <;> exact absurd p (by decide)
theorem wy_freeChan {post : Int32 → Prop} (R : re_R (2 * C) hel L es ew) (hA : ms_A L mT mK mV) (h64 : L.length ≤ 64) (k1 : ∀ c, c < C → es (2 * c) = 0 → (∀ j, j < c → ¬ es (2 * j) = 0) → post (nI c)) (k0 : (∀ c, c < C → ¬ es (2 * c) = 0) → post (-1)) : wpY_freeChan post (tY, pR, nI C, cP, cD, vd, eK, eD, eP, stt, nI L.length, oC, tk, sa, sb, eq, du, nx, dd, dp, dl, dm, pt, cd, ct, st, yd, yp, ya, yf, hel, mT, mK, mV, ou, eu, ev) :=
  ⟨C + 1, wy_fc2 R hA h64 k1 k0 (C + 1) 0 (by omega) (by omega) (fun j hj => absurd hj (Nat.not_lt_zero j))⟩
theorem wx_fc2 {post : Int32 → Prop} (hC : C ≤ 8) (k1 : ∀ c, c < C → es (2 * c) = 0 → (∀ j, j < c → ¬ es (2 * j) = 0) → post (nI c)) (k0 : (∀ c, c < C → ¬ es (2 * c) = 0) → post (-1)) :
    ∀ n c, c ≤ C → C < n + c → (∀ j, j < c → ¬ es (2 * j) = 0) → wX_lowestFreeChannel_2 post tY pR (nI C) cP stl cD vd eK eD eP stt oC tk sa sb gK gA gB cl nC dd dp dl dm pt cO cA cB cC cx cu st pd pp pa pf pv es ew qh qc qk qv ou cm n (nI c) := by
  intro n
  induction n with
  | zero => intro c h1 h2; omega
  | succ n ih =>
    intro c h1 h2 I
    by_cases h : c = C
    · subst h; exact br_t (nI_le (Nat.le_refl _) (by omega)) (k0 I)
    · refine br_f (nI_ge (by omega) (by omega)) ?_
      rw [nu_2m, nI_clamp (by omega)]
      refine ⟨vp_in_nI (by omega) (by decide), br_c (fun z => k1 c (by omega) z I) (fun z => nm_r (nI_1 c) (ih (c + 1) (by omega) (by omega) (fun j hj => ?_)))⟩
      by_cases p : j = c
      · rw [p]; exact z
      · exact I j (by omega)
theorem wx_freeChan {post : Int32 → Prop} (hC : C ≤ 8) (k1 : ∀ c, c < C → es (2 * c) = 0 → (∀ j, j < c → ¬ es (2 * j) = 0) → post (nI c)) (k0 : (∀ c, c < C → ¬ es (2 * c) = 0) → post (-1)) : wpX_lowestFreeChannel post (tY, pR, nI C, cP, stl, cD, vd, eK, eD, eP, stt, oC, tk, sa, sb, gK, gA, gB, cl, nC, dd, dp, dl, dm, pt, cO, cA, cB, cC, cx, cu, st, pd, pp, pa, pf, pv, es, ew, qh, qc, qk, qv, ou, cm) :=
  ⟨C + 1, wx_fc2 hC k1 k0 (C + 1) 0 (by omega) (by omega) (fun j hj => absurd hj (Nat.not_lt_zero j))⟩
theorem wx_fs2 {post : Int32 → Prop} (hP : P ≤ 6) (k1 : ∀ c, c < P → st c = 0 → (∀ j, j < c → ¬ st j = 0) → post (nI c)) (k0 : (∀ c, c < P → ¬ st c = 0) → post (-1)) :
    ∀ n c, c ≤ P → P < n + c → (∀ j, j < c → ¬ st j = 0) → wX_lowestFreeSlot_2 post tY (nI P) cH cP stl cD vd eK eD eP stt oC tk sa sb gK gA gB cl nC dd dp dl dm pt cO cA cB cC cx cu st pd pp pa pf pv es ew qh qc qk qv ou cm n (nI c) := by
  intro n
  induction n with
  | zero => intro c h1 h2; omega
  | succ n ih =>
    intro c h1 h2 I
    by_cases h : c = P
    · subst h; exact br_t (nI_le (Nat.le_refl _) (by omega)) (k0 I)
    · refine br_f (nI_ge (by omega) (by omega)) ⟨vp_in_nI (by omega) (by decide), ?_⟩
      rw [nI_clamp (by omega)]
      refine br_c (fun z => k1 c (by omega) z I) (fun z => nm_r (nI_1 c) (ih (c + 1) (by omega) (by omega) (fun j hj => ?_)))
      by_cases p : j = c
      · rw [p]; exact z
      · exact I j (by omega)
theorem wx_freeSlot {post : Int32 → Prop} (hP : P ≤ 6) (k1 : ∀ c, c < P → st c = 0 → (∀ j, j < c → ¬ st j = 0) → post (nI c)) (k0 : (∀ c, c < P → ¬ st c = 0) → post (-1)) : wpX_lowestFreeSlot post (tY, nI P, cH, cP, stl, cD, vd, eK, eD, eP, stt, oC, tk, sa, sb, gK, gA, gB, cl, nC, dd, dp, dl, dm, pt, cO, cA, cB, cC, cx, cu, st, pd, pp, pa, pf, pv, es, ew, qh, qc, qk, qv, ou, cm) :=
  ⟨P + 1, wx_fs2 hP k1 k0 (P + 1) 0 (by omega) (by omega) (fun j hj => absurd hj (Nat.not_lt_zero j))⟩
theorem wy_fs2 {post : Int32 → Prop} (hP : P ≤ 6) (k1 : ∀ c, c < P → st c = 0 → (∀ j, j < c → ¬ st j = 0) → post (nI c)) (k0 : (∀ c, c < P → ¬ st c = 0) → post (-1)) :
    ∀ n c, c ≤ P → P < n + c → (∀ j, j < c → ¬ st j = 0) → wY_freeSlot_2 post tY (nI P) cH cP cD vd eK eD eP stt mC oC tk sa sb eq du nx dd dp dl dm pt cd ct st yd yp ya yf hel mT mK mV ou eu ev n (nI c) := by
  intro n
  induction n with
  | zero => intro c h1 h2; omega
  | succ n ih =>
    intro c h1 h2 I
    by_cases h : c = P
    · subst h; exact br_t (nI_le (Nat.le_refl _) (by omega)) (k0 I)
    · refine br_f (nI_ge (by omega) (by omega)) ⟨vp_in_nI (by omega) (by decide), ?_⟩
      rw [nI_clamp (by omega)]
      refine br_c (fun z => k1 c (by omega) z I) (fun z => nm_r (nI_1 c) (ih (c + 1) (by omega) (by omega) (fun j hj => ?_)))
      by_cases p : j = c
      · rw [p]; exact z
      · exact I j (by omega)
theorem wy_freeSlot {post : Int32 → Prop} (hP : P ≤ 6) (k1 : ∀ c, c < P → st c = 0 → (∀ j, j < c → ¬ st j = 0) → post (nI c)) (k0 : (∀ c, c < P → ¬ st c = 0) → post (-1)) : wpY_freeSlot post (tY, nI P, cH, cP, cD, vd, eK, eD, eP, stt, mC, oC, tk, sa, sb, eq, du, nx, dd, dp, dl, dm, pt, cd, ct, st, yd, yp, ya, yf, hel, mT, mK, mV, ou, eu, ev) :=
  ⟨P + 1, wy_fs2 hP k1 k0 (P + 1) 0 (by omega) (by omega) (fun j hj => absurd hj (Nat.not_lt_zero j))⟩
/-! queues in Y's list -/
def ms_B (L : List MG) (mT : Nat → Int32) (mK mV : Nat → Int32) (j : Nat) (S : List MG) : Prop := j + S.length = L.length ∧ ∀ i m, S[i]? = some m → mT (j + i) = nI m.1 ∧ mK (j + i) = m.2.1 ∧ mV (j + i) = m.2.2
theorem ms_B_s {j : Nat} {m : MG} {S : List MG} (h : ms_B L mT mK mV j (m :: S)) : mT j = nI m.1 ∧ mK j = m.2.1 ∧ mV j = m.2.2 ∧ ms_B L mT mK mV (j + 1) S := by
  obtain ⟨h1, h2⟩ := h
  have h0 := h2 0 m rfl
  rw [Nat.add_zero] at h0
  refine ⟨h0.1, h0.2.1, h0.2.2, by rw [List.length_cons] at h1; omega, fun i m' hm => ?_⟩
  have := h2 (i + 1) m' (by rw [List.getElem?_cons_succ]; exact hm)
  rw [show j + (i + 1) = j + 1 + i by omega] at this
  exact this
theorem ms_B_0 (hA : ms_A L mT mK mV) : ms_B L mT mK mV 0 L := ⟨Nat.zero_add _, fun i m h => by rw [Nat.zero_add]; exact hA i m h⟩
theorem wy_ib4 {post : Int32 → Prop} {e : Nat} (he : e < 16) (h64 : L.length ≤ 64) (hL : ∀ m, m ∈ L → m.1 < 16) : ∀ (S : List MG) (n j c : Nat), ms_B L mT mK mV j S → (∀ m, m ∈ S → m.1 < 16) → L.length < n + j → post (nI (c + (ms_q e S).length)) → wY_inbound_4 post (nI e) tY pR cH cP cD vd eK eD eP stt (nI L.length) oC tk sa sb eq du nx dd dp dl dm pt cd ct st yd yp ya yf hel mT mK mV ou eu ev n (nI c) (nI j) := by
  intro S
  induction S with
  | nil =>
    intro n j c hB hS hn k
    have := hB.1
    rw [List.length_nil] at this
    obtain ⟨n, rfl⟩ : ∃ n', n = n' + 1 := ⟨n - 1, by omega⟩
    exact br_t (nI_le (by omega) (by omega)) k
  | cons m S ih =>
    intro n j c hB hS hn k
    have hl := hB.1
    rw [List.length_cons] at hl
    obtain ⟨b1, b2, b3, b4⟩ := ms_B_s hB
    obtain ⟨n, rfl⟩ : ∃ n', n = n' + 1 := ⟨n - 1, by omega⟩
    have m16 := hS m List.mem_cons_self
    refine br_f (nI_ge (by omega) (by omega)) ⟨vp_in_nI (by omega) (by decide), ?_⟩
    rw [nI_clamp (by omega), b1]
    rw [ms_q] at k
    refine pk_eq m.1 e (fun z => ?_) (fun z => ?_)
    · rw [if_pos z, List.length_cons] at k
      refine nm_r (nI_1 c) (nm_r (nI_1 j) (ih n (j + 1) (c + 1) b4 (fun m' hm' => hS m' (List.mem_cons_of_mem _ hm')) (by omega) ?_))
      rw [show c + 1 + (ms_q e S).length = c + ((ms_q e S).length + 1) by omega]; exact k
    · rw [if_neg z] at k
      exact nm_r (nI_1 j) (ih n (j + 1) c b4 (fun m' hm' => hS m' (List.mem_cons_of_mem _ hm')) (by omega) k)
theorem wy_inbound {post : Int32 → Prop} (hA : ms_A L mT mK mV) (h64 : L.length ≤ 64) (hL : ∀ m, m ∈ L → m.1 < 16) {e : Nat} (he : e < 16) (k : post (nI (ms_q e L).length)) : wpY_inbound post (tY, pR, cH, cP, cD, vd, eK, eD, eP, stt, nI L.length, oC, tk, sa, sb, eq, du, nx, dd, dp, dl, dm, pt, cd, ct, st, yd, yp, ya, yf, hel, mT, mK, mV, ou, eu, ev) (nI e) :=
  ⟨L.length + 1, wy_ib4 he h64 hL L (L.length + 1) 0 0 (ms_B_0 hA) hL (by omega) (by rw [Nat.zero_add]; exact k)⟩
theorem wy_fi5 {post : Int32 → Prop} {e i : Nat} (he : e < 16) (hi : i < 2 ^ 31) (h64 : L.length ≤ 64) : ∀ (S : List MG) (n j c : Nat), ms_B L mT mK mV j S → (∀ m, m ∈ S → m.1 < 16) → L.length < n + j → c ≤ j → (ms_f e i j c S = none → post (-1)) → (∀ q, ms_f e i j c S = some q → post (nI q)) → wY_find_5 post (nI e) (nI i) tY pR cH cP cD vd eK eD eP stt (nI L.length) oC tk sa sb eq du nx dd dp dl dm pt cd ct st yd yp ya yf hel mT mK mV ou eu ev n (nI c) (nI j) := by
  intro S
  induction S with
  | nil =>
    intro n j c hB hS hn hc k0 k1
    have := hB.1
    rw [List.length_nil] at this
    obtain ⟨n, rfl⟩ : ∃ n', n = n' + 1 := ⟨n - 1, by omega⟩
    exact br_t (nI_le (by omega) (by omega)) (k0 rfl)
  | cons m S ih =>
    intro n j c hB hS hn hc k0 k1
    have hl := hB.1
    rw [List.length_cons] at hl
    obtain ⟨b1, b2, b3, b4⟩ := ms_B_s hB
    obtain ⟨n, rfl⟩ : ∃ n', n = n' + 1 := ⟨n - 1, by omega⟩
    have m16 := hS m List.mem_cons_self
    have hS' : ∀ m', m' ∈ S → m'.1 < 16 := fun m' hm' => hS m' (List.mem_cons_of_mem _ hm')
    refine br_f (nI_ge (by omega) (by omega)) ⟨vp_in_nI (by omega) (by decide), ?_⟩
    rw [nI_clamp (by omega), b1]
    rw [ms_f] at k0 k1
    refine pk_eq m.1 e (fun z => ?_) (fun z => ?_)
    · rw [if_pos z] at k0 k1
      refine pk_eq c i (fun y => ?_) (fun y => ?_)
      · rw [if_pos y] at k1; exact k1 j rfl
      · rw [if_neg y] at k0 k1
        exact nm_r (nI_1 c) (nm_r (nI_1 j) (ih n (j + 1) (c + 1) b4 hS' (by omega) (by omega) k0 k1))
    · rw [if_neg z] at k0 k1
      exact nm_r (nI_1 j) (ih n (j + 1) c b4 hS' (by omega) (by omega) k0 k1)
theorem wy_find {post : Int32 → Prop} (hA : ms_A L mT mK mV) (h64 : L.length ≤ 64) (hL : ∀ m, m ∈ L → m.1 < 16) {e i : Nat} (he : e < 16) (hi : i < 2 ^ 31) (k0 : ms_f e i 0 0 L = none → post (-1)) (k1 : ∀ q, ms_f e i 0 0 L = some q → post (nI q)) : wpY_find post (tY, pR, cH, cP, cD, vd, eK, eD, eP, stt, nI L.length, oC, tk, sa, sb, eq, du, nx, dd, dp, dl, dm, pt, cd, ct, st, yd, yp, ya, yf, hel, mT, mK, mV, ou, eu, ev) (nI e) (nI i) :=
  ⟨L.length + 1, wy_fi5 he hi h64 L (L.length + 1) 0 0 (ms_B_0 hA) hL (by omega) (by omega) k0 k1⟩
end LOK
end
section
section EIN
variable {tY pR cH cP stl cD vd eK eD eP stt oC mC : Int32} {tk sa sb gK gA gB cl nC dd dp dl dm pt cO cA cB cC cx cu st pd pp pa pf pv es ew qh qc qk qv ou cm eq du nx cd ct yd yp ya yf hel mT mK mV eu ev : Nat → Int32}
variable {T P C Q O : Nat} {K A B : Nat → Nat} {L : List MG}
theorem pr_x : ∀ e, e < 16 → nI e ^^^ 1 = nI (pr e) := by decide +kernel
theorem zc_q (h : zc P C Q L pv hel es ew qh qc qk qv mT mK mV) (hQ : Q ≤ 4) : (∀ m, m ∈ L → m.1 < 16) ∧ (∀ e, (ms_q e L).length ≤ 4) ∧ L.length ≤ 64 := by
  have h1 : ∀ m, m ∈ L → m.1 < 16 := fun m hm => re_li h.1 hm
  have h2 : ∀ e, (ms_q e L).length ≤ 4 := fun e => by
    by_cases z : e < 2 * C
    · obtain ⟨_, _, _, _, q, _⟩ := h.2.2.1 e z
      omega
    · rw [ms_q_nil L (fun m hm => by have := (h.1.2.2.1 m hm).1; omega)]
      exact Nat.zero_le _
  exact ⟨h1, h2, ms_len h1 h2⟩
def eiv (es ew : Nat → Int32) (L : List MG) (e f : Nat) : Int32 := if f = 0 then es e else if f = 1 then ew e else nI (ms_q e L).length
theorem wx_endInfo {post : Int32 → Prop} {e f : Nat} (h : zc P C Q L pv hel es ew qh qc qk qv mT mK mV) (he : e < 2 * C) (hf : f < 3) (k : post (eiv es ew L e f)) : wpX_endInfo post (tY, pR, nI C, cP, stl, cD, vd, eK, eD, eP, stt, oC, tk, sa, sb, gK, gA, gB, cl, nC, dd, dp, dl, dm, pt, cO, cA, cB, cC, cx, cu, st, pd, pp, pa, pf, pv, es, ew, qh, qc, qk, qv, ou, cm) (nI e) (nI f) := by
  have E16 := h.1.1.1
  have e1 : (nI e).toNatClampNeg = e := nI_clamp (by omega)
  have i1 : vp_in (nI e) 16 := vp_in_nI (by omega) (by decide)
  obtain ⟨_, _, _, q, _⟩ := h.2.2.1 e he
  unfold wpX_endInfo
  refine wx_in1 he ?_ (by omega) (by rw [nu_2m])
  refine br_f nu_10 (br_f (nI_pos (by omega)) (br_f (nI_nlt (a := 2) (by omega) (by omega)) ?_))
  rw [e1, q]
  unfold eiv at k
  refine pk_eq f 0 (fun z => ⟨i1, ?_⟩) (fun z0 => pk_eq f 1 (fun z => ⟨i1, ?_⟩) (fun z1 => pk_eq f 2 (fun z => ⟨i1, ?_⟩) (fun z2 => by omega)))
  · rw [if_pos z] at k; exact k
  · rw [if_neg z0, if_pos z] at k; exact k
  · rw [if_neg z0, if_neg z1] at k; exact k
theorem wy_endInfo {post : Int32 → Prop} {e f : Nat} (h : zc P C Q L pv hel es ew qh qc qk qv mT mK mV) (hQ : Q ≤ 4) (he : e < 2 * C) (hf : f < 3) (k : post (eiv es ew L e f)) : wpY_endInfo post (tY, pR, nI C, cP, cD, vd, eK, eD, eP, stt, nI L.length, oC, tk, sa, sb, eq, du, nx, dd, dp, dl, dm, pt, cd, ct, st, yd, yp, ya, yf, hel, mT, mK, mV, ou, eu, ev) (nI e) (nI f) := by
  have E16 := h.1.1.1
  obtain ⟨q1, q2, q3⟩ := zc_q h hQ
  unfold wpY_endInfo
  refine wy_in1 he ?_ (by omega) (by rw [nu_2m])
  refine br_f nu_10 ?_
  refine wy_in1 (N := 3) hf ?_
  refine br_f nu_10 ?_
  unfold eiv at k
  refine pk_eq f 2 (fun z => ?_) (fun z2 => ?_)
  · rw [if_neg (by omega), if_neg (by omega)] at k
    exact wy_inbound h.2.1 q3 q1 (by omega) k
  · refine wy_holder (fun i hi hh => ?_) (fun nh => ?_)
    · obtain ⟨_, s1, s2, _⟩ := re_of_hd h.1 hi hh (by omega)
      rw [s1, s2] at k
      have fin : ∀ r : Int32, (f = 1 ∨ f = 0) → ((nI f = 1 → ((nI (i / 6) < 0 → post r) ∧ (¬ nI (i / 6) < 0 → post (nI (i / 6))))) ∧ (¬ nI f = 1 → ((nI (i / 6) < 0 → ((r < 0 → wpY_alive (fun r_159 => (((r_159 = 0 → (post 0)) ∧ (¬ r_159 = 0 → (post 3))))) (tY, pR, nI C, cP, cD, vd, eK, eD, eP, stt, nI L.length, oC, tk, sa, sb, eq, du, nx, dd, dp, dl, dm, pt, cd, ct, st, yd, yp, ya, yf, hel, mT, mK, mV, ou, eu, ev) (nI e ^^^ 1)) ∧ (¬ r < 0 → post 2))) ∧ (¬ nI (i / 6) < 0 → post 1)))) := fun r hf => by
        refine pk_eq f 1 (fun y => br_f (nI_pos (by omega)) ?_) (fun y => br_f (nI_pos (by omega)) ?_)
        · rw [if_neg (by omega), if_pos y] at k; exact k
        · rw [if_pos (by omega)] at k; exact k
      exact wy_carrier h.2.1 q3 (fun m _ _ _ => fin _ (by omega)) (fun _ => fin _ (by omega))
    · refine wy_carrier h.2.1 q3 (fun m hm h2 hv => ?_) (fun nc => ?_)
      · obtain ⟨g, g1, g2, g3, g4, _⟩ := re_of_ms h.1 hm h2
        have := re_inj (by omega) (by omega) (g2.symm.trans hv)
        subst this
        rw [g3, g4] at k
        have m16 := q1 m hm
        refine pk_eq f 1 (fun y => br_t nu_m1lt ?_) (fun y => br_t nu_m1lt (br_f (nI_pos (by omega)) ?_))
        · rw [if_neg (by omega), if_pos y] at k; exact k
        · rw [if_pos (by omega)] at k; exact k
      · have dead : (es e = 3 ∧ ew e = -1 ∧ (es (pr e) = 1 ∨ es (pr e) = 2)) ∨ (es e = 0 ∧ ew e = -1 ∧ es (pr e) = 0) := by
          rcases h.1.2.2.2 e he with q | q | q | q
          · obtain ⟨i, i1, i2⟩ := hn_ex 36 (show 0 < hn_c hel (nI e) 36 by omega)
            exact absurd i2 (nh i i1)
          · obtain ⟨m, m1, m2, m3⟩ := ms_c_pos L (show 0 < ms_c (nI e) L by omega)
            exact absurd m3 (nc m m1 m2)
          · exact Or.inl ⟨q.1, q.2.2.2.1, q.2.2.2.2.2⟩
          · exact Or.inr ⟨q.1, q.2.2.2.1, q.2.2.2.2.2⟩
        rw [pr_x e (by omega)]
        refine pk_eq f 1 (fun y => br_t nu_m1lt ?_) (fun y => br_t nu_m1lt (br_t nu_m1lt ?_))
        · rw [if_neg (by omega), if_pos y] at k
          rcases dead with q | q <;> rw [q.2.1] at k <;> exact k
        · rw [if_pos (by omega)] at k
          refine wy_alive h.1 h.2.1 q3 (pr_lt he (by omega)) (fun p => br_f nu_10 ?_) (fun p => br_t rfl ?_)
          · rcases dead with q | q
            · rw [q.1] at k; exact k
            · rw [q.2.2] at p
              rcases p with p | p <;> exact absurd p (by decide)
          · rcases dead with q | q
            · rcases q.2.2 with w | w <;> rw [w] at p <;> rcases p with p | p <;> exact absurd p (by decide)
            · rw [q.1] at k; exact k
end EIN
theorem i_vc_endInfo {k : Nat} {u : SX} {v : SY} (I : i_Rel k u v) (hk : k + 5 ≤ 2564) (v1 : Int32) (v2 : Int32) : wpX_endInfo (fun r => wpY_endInfo (fun r' => r' = r ∧ i_Rel (k + 5) u v) v v1 v2) u v1 v2 := by
  refine zz_el (R := fun u v => wpX_endInfo (fun r => wpY_endInfo (fun r' => r' = r ∧ i_Rel (k + 5) u v) v v1 v2) u v1 v2) ?_ I
  intro T P C Q O K A B L stl cD vd eK eD eP stt tk sa sb gK gA gB cl nC dd dp dl dm pt cO cA cB cC cx cu st pd pp pa pf pv es ew qh qc qk qv ou cm eq du nx cd ct yd yp ya yf hel mT mK mV eu ev hS hT hD hV hR
  have J : i_Rel (k + 5) (nI T, nI P, nI C, nI Q, stl, cD, vd, eK, eD, eP, stt, nI O, tk, sa, sb, gK, gA, gB, cl, nC, dd, dp, dl, dm, pt, cO, cA, cB, cC, cx, cu, st, pd, pp, pa, pf, pv, es, ew, qh, qc, qk, qv, ou, cm) (nI T, nI P, nI C, nI Q, cD, vd, eK, eD, eP, stt, nI L.length, nI O, tk, sa, sb, eq, du, nx, dd, dp, dl, dm, pt, cd, ct, st, yd, yp, ya, yf, hel, mT, mK, mV, ou, eu, ev) := zz_in hS hT hD hV hR
  obtain ⟨s1, s2, s3, s4, s5, s6, s7⟩ := hS
  rcases nu_cs v1 (2 * C) (by omega) with ⟨e, e1, rfl⟩ | n1
  · rcases nu_cs v2 3 (by omega) with ⟨f, f1, rfl⟩ | n2
    · exact wx_endInfo hR.1 e1 f1 (wy_endInfo hR.1 s6 e1 f1 ⟨rfl, J⟩)
    · unfold wpX_endInfo
      refine wx_in1 e1 ?_ (by omega) (by rw [nu_2m])
      have Y : wpY_endInfo (fun r' => r' = -1 ∧ i_Rel (k + 5) (nI T, nI P, nI C, nI Q, stl, cD, vd, eK, eD, eP, stt, nI O, tk, sa, sb, gK, gA, gB, cl, nC, dd, dp, dl, dm, pt, cO, cA, cB, cC, cx, cu, st, pd, pp, pa, pf, pv, es, ew, qh, qc, qk, qv, ou, cm) (nI T, nI P, nI C, nI Q, cD, vd, eK, eD, eP, stt, nI L.length, nI O, tk, sa, sb, eq, du, nx, dd, dp, dl, dm, pt, cd, ct, st, yd, yp, ya, yf, hel, mT, mK, mV, ou, eu, ev)) (nI T, nI P, nI C, nI Q, cD, vd, eK, eD, eP, stt, nI L.length, nI O, tk, sa, sb, eq, du, nx, dd, dp, dl, dm, pt, cd, ct, st, yd, yp, ya, yf, hel, mT, mK, mV, ou, eu, ev) (nI e) v2 := by
        unfold wpY_endInfo
        refine wy_in1 e1 ?_ (by omega) (by rw [nu_2m])
        refine br_f nu_10 ?_
        refine wy_in0 (N := 3) n2 ?_
        exact br_t rfl ⟨rfl, J⟩
      exact br_f nu_10 (br_c (fun _ => Y) (fun z => br_t (nu_hx (N := 3) (by omega) z (n2.resolve_left z)) Y))
  · unfold wpX_endInfo
    refine wx_in0 (N := 2 * C) n1 ?_ (by omega) (by rw [nu_2m])
    refine br_t rfl ?_
    unfold wpY_endInfo
    refine wy_in0 (N := 2 * C) n1 ?_ (by rw [nu_2m])
    exact br_t rfl ⟨rfl, J⟩
theorem nu_and3 (n : Nat) (h : n < 2 ^ 31) : nI n &&& 3 = nI (n % 4) := pk_andN (by omega) 2 (by decide)
theorem i_vc_message {k : Nat} {u : SX} {v : SY} (I : i_Rel k u v) (hk : k + 5 ≤ 2564) (v1 : Int32) (v2 : Int32) (v3 : Int32) : wpX_message (fun r => wpY_message (fun r' => r' = r ∧ i_Rel (k + 5) u v) v v1 v2 v3) u v1 v2 v3 := by
  refine zz_el (R := fun u v => wpX_message (fun r => wpY_message (fun r' => r' = r ∧ i_Rel (k + 5) u v) v v1 v2 v3) u v1 v2 v3) ?_ I
  intro T P C Q O K A B L stl cD vd eK eD eP stt tk sa sb gK gA gB cl nC dd dp dl dm pt cO cA cB cC cx cu st pd pp pa pf pv es ew qh qc qk qv ou cm eq du nx cd ct yd yp ya yf hel mT mK mV eu ev hS hT hD hV hR
  have J : i_Rel (k + 5) (nI T, nI P, nI C, nI Q, stl, cD, vd, eK, eD, eP, stt, nI O, tk, sa, sb, gK, gA, gB, cl, nC, dd, dp, dl, dm, pt, cO, cA, cB, cC, cx, cu, st, pd, pp, pa, pf, pv, es, ew, qh, qc, qk, qv, ou, cm) (nI T, nI P, nI C, nI Q, cD, vd, eK, eD, eP, stt, nI L.length, nI O, tk, sa, sb, eq, du, nx, dd, dp, dl, dm, pt, cd, ct, st, yd, yp, ya, yf, hel, mT, mK, mV, ou, eu, ev) := zz_in hS hT hD hV hR
  obtain ⟨s1, s2, s3, s4, s5, s6, s7⟩ := hS
  obtain ⟨q1, q2, q3⟩ := zc_q hR.1 s6
  rcases nu_cs v1 (2 * C) (by omega) with ⟨e, e1, rfl⟩ | n1
  · have ee : (nI e).toNatClampNeg = e := nI_clamp (by omega)
    have i1 : vp_in (nI e) 16 := vp_in_nI (by omega) (by decide)
    obtain ⟨h, h4, hh, hc, hl, hm⟩ := hR.1.2.2.1 e e1
    unfold wpX_message
    refine wx_in1 e1 ?_ (by omega) (by rw [nu_2m])
    refine br_f nu_10 ⟨i1, ?_⟩
    rw [ee, hc, hh]
    -- Y's ways to -1
    have Yi : ∀ i : Nat, i < 2 ^ 31 → v2 = nI i → (ms_q e L).length ≤ i → wpY_message (fun r' => r' = -1 ∧ i_Rel (k + 5) (nI T, nI P, nI C, nI Q, stl, cD, vd, eK, eD, eP, stt, nI O, tk, sa, sb, gK, gA, gB, cl, nC, dd, dp, dl, dm, pt, cO, cA, cB, cC, cx, cu, st, pd, pp, pa, pf, pv, es, ew, qh, qc, qk, qv, ou, cm) (nI T, nI P, nI C, nI Q, cD, vd, eK, eD, eP, stt, nI L.length, nI O, tk, sa, sb, eq, du, nx, dd, dp, dl, dm, pt, cd, ct, st, yd, yp, ya, yf, hel, mT, mK, mV, ou, eu, ev)) (nI T, nI P, nI C, nI Q, cD, vd, eK, eD, eP, stt, nI L.length, nI O, tk, sa, sb, eq, du, nx, dd, dp, dl, dm, pt, cd, ct, st, yd, yp, ya, yf, hel, mT, mK, mV, ou, eu, ev) (nI e) v2 v3 := fun i hi h2 hle => by
      unfold wpY_message
      rw [h2]
      refine wy_in1 e1 ?_ (by omega) (by rw [nu_2m])
      refine br_f nu_10 (br_f (nI_pos hi) ?_)
      rcases nu_cs v3 2 (by omega) with ⟨f, f1, rfl⟩ | n3
      · refine wy_in1 (N := 2) f1 ?_
        refine br_f nu_10 ?_
        refine wy_find hR.1.2.1 q3 q1 (by omega) hi (fun _ => br_f nu_m1le ⟨rfl, J⟩) (fun q hq => ?_)
        rcases ms_f_spec e i L 0 0 (Nat.zero_le _) with ⟨z, _⟩ | ⟨_, m, _, _, z⟩
        · rw [z] at hq; cases hq
        · rw [Nat.sub_zero, List.getElem?_eq_none hle] at z; cases z
      · refine wy_in0 (N := 2) n3 ?_
        exact br_t rfl ⟨rfl, J⟩
    have Yf : (v3 < 0 ∨ nI 2 ≤ v3) → wpY_message (fun r' => r' = -1 ∧ i_Rel (k + 5) (nI T, nI P, nI C, nI Q, stl, cD, vd, eK, eD, eP, stt, nI O, tk, sa, sb, gK, gA, gB, cl, nC, dd, dp, dl, dm, pt, cO, cA, cB, cC, cx, cu, st, pd, pp, pa, pf, pv, es, ew, qh, qc, qk, qv, ou, cm) (nI T, nI P, nI C, nI Q, cD, vd, eK, eD, eP, stt, nI L.length, nI O, tk, sa, sb, eq, du, nx, dd, dp, dl, dm, pt, cd, ct, st, yd, yp, ya, yf, hel, mT, mK, mV, ou, eu, ev)) (nI T, nI P, nI C, nI Q, cD, vd, eK, eD, eP, stt, nI L.length, nI O, tk, sa, sb, eq, du, nx, dd, dp, dl, dm, pt, cd, ct, st, yd, yp, ya, yf, hel, mT, mK, mV, ou, eu, ev) (nI e) v2 v3 := fun n3 => by
      unfold wpY_message
      refine wy_in1 e1 ?_ (by omega) (by rw [nu_2m])
      refine br_f nu_10 (br_c (fun _ => ⟨rfl, J⟩) (fun _ => ?_))
      refine wy_in0 (N := 2) n3 ?_
      exact br_t rfl ⟨rfl, J⟩
    rcases nu_cs v2 (ms_q e L).length (by omega) with ⟨i, i2, rfl⟩ | n2
    · refine wx_in1 i2 ?_
      refine br_f nu_10 ?_
      rcases nu_cs v3 2 (by omega) with ⟨f, f1, rfl⟩ | n3
      · refine wx_in1 (N := 2) f1 ?_
        have ex : nI e * 4 + ((nI h + nI i) &&& 3) = nI (e * 4 + (h + i) % 4) := by
          rw [nI_add, nu_and3 _ (by omega), nu_m4, nI_add]
        have ix : vp_in (nI (e * 4 + (h + i) % 4)) 64 := vp_in_nI (by omega) (by decide)
        have ec : (nI (e * 4 + (h + i) % 4)).toNatClampNeg = e * 4 + (h + i) % 4 := nI_clamp (by omega)
        obtain ⟨m, m1, _⟩ := ms_at (L := ms_q e L) i2
        obtain ⟨m2, m3⟩ := hm i m m1
        refine br_f nu_10 ⟨i1, nm_r ex ?_⟩
        rw [ec, m2, m3]
        have Y : ∀ r : Int32, (f = 0 → r = m.2.1) → (¬ f = 0 → r = m.2.2) → wpY_message (fun r' => r' = r ∧ i_Rel (k + 5) (nI T, nI P, nI C, nI Q, stl, cD, vd, eK, eD, eP, stt, nI O, tk, sa, sb, gK, gA, gB, cl, nC, dd, dp, dl, dm, pt, cO, cA, cB, cC, cx, cu, st, pd, pp, pa, pf, pv, es, ew, qh, qc, qk, qv, ou, cm) (nI T, nI P, nI C, nI Q, cD, vd, eK, eD, eP, stt, nI L.length, nI O, tk, sa, sb, eq, du, nx, dd, dp, dl, dm, pt, cd, ct, st, yd, yp, ya, yf, hel, mT, mK, mV, ou, eu, ev)) (nI T, nI P, nI C, nI Q, cD, vd, eK, eD, eP, stt, nI L.length, nI O, tk, sa, sb, eq, du, nx, dd, dp, dl, dm, pt, cd, ct, st, yd, yp, ya, yf, hel, mT, mK, mV, ou, eu, ev) (nI e) (nI i) (nI f) := fun r r0 r1 => by
          unfold wpY_message
          refine wy_in1 e1 ?_ (by omega) (by rw [nu_2m])
          refine br_f nu_10 (br_f (nI_pos (by omega)) ?_)
          refine wy_in1 (N := 2) f1 ?_
          refine br_f nu_10 ?_
          refine wy_find hR.1.2.1 q3 q1 (by omega) (by omega) (fun hq => ?_) (fun q hq => ?_)
          · rcases ms_f_spec e i L 0 0 (Nat.zero_le _) with ⟨_, z⟩ | ⟨_, m', z, _, _⟩
            · rw [Nat.sub_zero, m1] at z; cases z
            · rw [z] at hq; cases hq
          · rcases ms_f_spec e i L 0 0 (Nat.zero_le _) with ⟨z, _⟩ | ⟨j, m', z1, z2, z3⟩
            · rw [z] at hq; cases hq
            · rw [Nat.sub_zero, m1] at z3
              have := Option.some.inj z3
              subst this
              rw [z1, Nat.zero_add] at hq
              have := Option.some.inj hq
              subst this
              have jl : j < L.length := by
                rcases Nat.lt_or_ge j L.length with l | l
                · exact l
                · rw [List.getElem?_eq_none l] at z2; cases z2
              obtain ⟨_, a2, a3⟩ := hR.1.2.1 j m z2
              refine br_t (nI_pos' (by omega)) ?_
              rw [nI_clamp (by omega), a2, a3]
              exact pk_eq f 0 (fun w => ⟨vp_in_nI (by omega) (by decide), (r0 w).symm, J⟩) (fun w => ⟨vp_in_nI (by omega) (by decide), (r1 w).symm, J⟩)
        exact pk_eq f 0 (fun z => ⟨ix, Y _ (fun _ => rfl) (fun y => absurd z y)⟩) (fun z => ⟨ix, Y _ (fun y => absurd y z) (fun _ => rfl)⟩)
      · refine wx_in0 (N := 2) n3 ?_
        exact br_t rfl (Yf n3)
    · refine wx_in0 n2 ?_
      refine br_t rfl ?_
      by_cases z : v2 < 0
      · unfold wpY_message
        refine wy_in1 e1 ?_ (by omega) (by rw [nu_2m])
        exact br_f nu_10 (br_t z ⟨rfl, J⟩)
      · obtain ⟨i, i1, rfl⟩ := nI_of z
        exact Yi i i1 rfl ((nI_leI (by omega) i1).mp (n2.resolve_left z))
  · unfold wpX_message
    refine wx_in0 (N := 2 * C) n1 ?_ (by omega) (by rw [nu_2m])
    refine br_t rfl ?_
    unfold wpY_message
    refine wy_in0 (N := 2 * C) n1 ?_ (by rw [nu_2m])
    exact br_t rfl ⟨rfl, J⟩
end
section
section PRX
variable {tY pR cH cP stl cD vd eK eD eP stt oC mC : Int32} {tk sa sb gK gA gB cl nC dd dp dl dm pt cO cA cB cC cx cu st pd pp pa pf pv es ew qh qc qk qv ou cm eq du nx cd ct yd yp ya yf hel mT mK mV eu ev : Nat → Int32}
variable {T P C Q O : Nat} {K A B : Nat → Nat} {L : List MG} {post : Int32 → Prop}
/-! X: what a step would answer -/
theorem vx {p a : Nat} : nI p * 6 + nI a = nI (p * 6 + a) := by rw [nu_m6, nI_add]
theorem wx_probePut {p a : Nat} (h : zc P C Q L pv hel es ew qh qc qk qv mT mK mV) (hP : P ≤ 6) (hQ : Q ≤ 4) (hp : p < P) (ha : a < 6)
    (k1 : hel (p * 6 + a) = -1 → post 1) (k6 : ∀ e, e < 2 * C → hel (p * 6 + a) = nI e → es (pr e) = 3 → post 6) (k0 : ∀ e, e < 2 * C → hel (p * 6 + a) = nI e → (es (pr e) = 1 ∨ es (pr e) = 2) → (ms_q (pr e) L).length < Q → post 0) (k4 : ∀ e, e < 2 * C → hel (p * 6 + a) = nI e → (es (pr e) = 1 ∨ es (pr e) = 2) → ¬ (ms_q (pr e) L).length < Q → post (-4)) :
    wpX_probePut post (tY, pR, cH, nI Q, stl, cD, vd, eK, eD, eP, stt, oC, tk, sa, sb, gK, gA, gB, cl, nC, dd, dp, dl, dm, pt, cO, cA, cB, cC, cx, cu, st, pd, pp, pa, pf, pv, es, ew, qh, qc, qk, qv, ou, cm) (nI p) (nI a) := by
  have E16 := h.1.1.1
  unfold wpX_probePut
  dsimp only
  rw [vx, nI_clamp (show p * 6 + a < 2 ^ 31 by omega)]
  refine ⟨vp_in_nI (by omega) (by decide), nm_r (h.2.2.2.1 _ (by omega)) ?_⟩
  rcases re_hd h.1 (i := p * 6 + a) (by omega) with z | ⟨e, e1, e2⟩
  · rw [z]; exact br_f nu_m1le (k1 z)
  · have pe := pr_lt e1 h.1.1.2
    have pi : vp_in (nI (pr e)) 16 := vp_in_nI (by omega) (by decide)
    have s1 := (re_of_hd h.1 (by omega) e2 (by omega)).2.1
    obtain ⟨_, _, _, q, ql, _⟩ := h.2.2.1 (pr e) pe
    rw [e2]
    refine br_t (nI_pos' (by omega)) (nm_r (pr_x e (by omega)) ⟨pi, ?_⟩)
    rw [nI_clamp (show pr e < 2 ^ 31 by omega), q]
    have al := re_peer h.1 e1 (Or.inl s1)
    refine br_c (fun y => k6 e e1 e2 y) (fun y => ⟨pi, pk_lt _ _ (fun w => k0 e e1 e2 ?_ w) (fun w => k4 e e1 e2 ?_ (by omega))⟩)
    · rcases al with g | g | g
      · exact Or.inl g
      · exact Or.inr g
      · exact absurd g y
    · rcases al with g | g | g
      · exact Or.inl g
      · exact Or.inr g
      · exact absurd g y
theorem wx_probeGet {p a kd : Nat} (h : zc P C Q L pv hel es ew qh qc qk qv mT mK mV) (hP : P ≤ 6) (hQ : Q ≤ 4) (hp : p < P) (ha : a < 6)
    (k1 : hel (p * 6 + a) = -1 → post 1) (k6 : ∀ e, e < 2 * C → hel (p * 6 + a) = nI e → ms_q e L = [] → es (pr e) = 3 → post 6) (k4 : ∀ e, e < 2 * C → hel (p * 6 + a) = nI e → ms_q e L = [] → (es (pr e) = 1 ∨ es (pr e) = 2) → post (-4))
    (k0 : ∀ e m S, e < 2 * C → hel (p * 6 + a) = nI e → ms_q e L = m :: S → m.2.1 = nI kd → post 0) (k5 : ∀ e m S, e < 2 * C → hel (p * 6 + a) = nI e → ms_q e L = m :: S → ¬ m.2.1 = nI kd → post 5) :
    wpX_probeGet post (tY, pR, cH, cP, stl, cD, vd, eK, eD, eP, stt, oC, tk, sa, sb, gK, gA, gB, cl, nC, dd, dp, dl, dm, pt, cO, cA, cB, cC, cx, cu, st, pd, pp, pa, pf, pv, es, ew, qh, qc, qk, qv, ou, cm) (nI p) (nI a) (nI kd) := by
  have E16 := h.1.1.1
  unfold wpX_probeGet
  dsimp only
  rw [vx, nI_clamp (show p * 6 + a < 2 ^ 31 by omega)]
  refine ⟨vp_in_nI (by omega) (by decide), nm_r (h.2.2.2.1 _ (by omega)) ?_⟩
  rcases re_hd h.1 (i := p * 6 + a) (by omega) with z | ⟨e, e1, e2⟩
  · rw [z]; exact br_f nu_m1le (k1 z)
  · have pe := pr_lt e1 h.1.1.2
    have pi : vp_in (nI (pr e)) 16 := vp_in_nI (by omega) (by decide)
    have ei : vp_in (nI e) 16 := vp_in_nI (by omega) (by decide)
    have s1 := (re_of_hd h.1 (by omega) e2 (by omega)).2.1
    obtain ⟨g, g4, gh, gc, gl, gm⟩ := h.2.2.1 e e1
    have al := re_peer h.1 e1 (Or.inl s1)
    rw [e2]
    refine br_t (nI_pos' (by omega)) ⟨ei, ?_⟩
    rw [nI_clamp (show e < 2 ^ 31 by omega), gc, gh, pr_x e (by omega), nI_clamp (show pr e < 2 ^ 31 by omega), nu_m4, nI_add, nI_clamp (show e * 4 + g < 2 ^ 31 by omega)]
    refine pk_eq (ms_q e L).length 0 (fun y => ⟨pi, ?_⟩) (fun y => ⟨ei, vp_in_nI (by omega) (by decide), ?_⟩)
    · have y := List.eq_nil_of_length_eq_zero y
      refine br_c (fun w => k6 e e1 e2 y w) (fun w => k4 e e1 e2 y ?_)
      rcases al with g | g | g
      · exact Or.inl g
      · exact Or.inr g
      · exact absurd g w
    · obtain ⟨m, S, hq⟩ : ∃ m S, ms_q e L = m :: S := by
        cases hq : ms_q e L with
        | nil => rw [hq] at y; exact absurd rfl y
        | cons m S => exact ⟨m, S, rfl⟩
      have gm0 := gm 0 m (by rw [hq]; rfl)
      rw [Nat.add_zero, Nat.mod_eq_of_lt g4] at gm0
      rw [gm0.1]
      exact br_c (fun w => k0 e m S e1 e2 hq w) (fun w => k5 e m S e1 e2 hq w)
theorem wx_probeGive {p a b : Nat} (h : zc P C Q L pv hel es ew qh qc qk qv mT mK mV) (hP : P ≤ 6) (hQ : Q ≤ 4) (hp : p < P) (ha : a < 6) (hb : b < 6)
    (k3 : a = b → post 3) (k1 : ¬ a = b → (hel (p * 6 + a) = -1 ∨ hel (p * 6 + b) = -1) → post 1)
    (k6 : ∀ e f, ¬ a = b → e < 2 * C → f < 2 * C → hel (p * 6 + a) = nI e → hel (p * 6 + b) = nI f → es (pr e) = 3 → post 6)
    (k0 : ∀ e f, ¬ a = b → e < 2 * C → f < 2 * C → hel (p * 6 + a) = nI e → hel (p * 6 + b) = nI f → (es (pr e) = 1 ∨ es (pr e) = 2) → (ms_q (pr e) L).length < Q → post 0)
    (k4 : ∀ e f, ¬ a = b → e < 2 * C → f < 2 * C → hel (p * 6 + a) = nI e → hel (p * 6 + b) = nI f → (es (pr e) = 1 ∨ es (pr e) = 2) → ¬ (ms_q (pr e) L).length < Q → post (-4)) :
    wpX_probeGive post (tY, pR, cH, nI Q, stl, cD, vd, eK, eD, eP, stt, oC, tk, sa, sb, gK, gA, gB, cl, nC, dd, dp, dl, dm, pt, cO, cA, cB, cC, cx, cu, st, pd, pp, pa, pf, pv, es, ew, qh, qc, qk, qv, ou, cm) (nI p) (nI a) (nI b) := by
  have E16 := h.1.1.1
  unfold wpX_probeGive
  dsimp only
  refine pk_eq a b k3 (fun n => ?_)
  rw [vx, vx, nI_clamp (show p * 6 + a < 2 ^ 31 by omega), nI_clamp (show p * 6 + b < 2 ^ 31 by omega), h.2.2.2.1 _ (show p * 6 + a < P * 6 by omega), h.2.2.2.1 _ (show p * 6 + b < P * 6 by omega)]
  refine ⟨vp_in_nI (by omega) (by decide), ?_⟩
  rcases re_hd h.1 (i := p * 6 + a) (by omega) with z | ⟨e, e1, e2⟩
  · rw [z]; exact br_t nu_m1lt (k1 n (Or.inl z))
  · rw [e2]
    refine br_f (nI_pos (by omega)) ⟨vp_in_nI (by omega) (by decide), ?_⟩
    rcases re_hd h.1 (i := p * 6 + b) (by omega) with y | ⟨f, f1, f2⟩
    · rw [y]; exact br_f nu_m1le (k1 n (Or.inr y))
    · rw [f2]
      refine br_t (nI_pos' (by omega)) (wx_probePut h hP hQ hp ha (fun q => ?_) (fun e' a1 a2 a3 => k6 e' f n a1 f1 a2 f2 a3) (fun e' a1 a2 a3 a4 => k0 e' f n a1 f1 a2 f2 a3 a4) (fun e' a1 a2 a3 a4 => k4 e' f n a1 f1 a2 f2 a3 a4))
      exact absurd (q.symm.trans e2) (re_n1 (by omega))
theorem wx_probeTake {p a b : Nat} (h : zc P C Q L pv hel es ew qh qc qk qv mT mK mV) (hP : P ≤ 6) (hQ : Q ≤ 4) (hp : p < P) (ha : a < 6) (hb : b < 6)
    (k1 : hel (p * 6 + a) = -1 → post 1) (k2 : ¬ hel (p * 6 + a) = -1 → ¬ hel (p * 6 + b) = -1 → post 2)
    (k6 : ∀ e, hel (p * 6 + b) = -1 → e < 2 * C → hel (p * 6 + a) = nI e → ms_q e L = [] → es (pr e) = 3 → post 6) (k4 : ∀ e, hel (p * 6 + b) = -1 → e < 2 * C → hel (p * 6 + a) = nI e → ms_q e L = [] → (es (pr e) = 1 ∨ es (pr e) = 2) → post (-4))
    (k0 : ∀ e m S, hel (p * 6 + b) = -1 → e < 2 * C → hel (p * 6 + a) = nI e → ms_q e L = m :: S → m.2.1 = nI 2 → post 0) (k5 : ∀ e m S, hel (p * 6 + b) = -1 → e < 2 * C → hel (p * 6 + a) = nI e → ms_q e L = m :: S → ¬ m.2.1 = nI 2 → post 5) :
    wpX_probeTake post (tY, pR, cH, cP, stl, cD, vd, eK, eD, eP, stt, oC, tk, sa, sb, gK, gA, gB, cl, nC, dd, dp, dl, dm, pt, cO, cA, cB, cC, cx, cu, st, pd, pp, pa, pf, pv, es, ew, qh, qc, qk, qv, ou, cm) (nI p) (nI a) (nI b) := by
  have E16 := h.1.1.1
  unfold wpX_probeTake
  dsimp only
  rw [vx, vx, nI_clamp (show p * 6 + a < 2 ^ 31 by omega), nI_clamp (show p * 6 + b < 2 ^ 31 by omega), h.2.2.2.1 _ (show p * 6 + a < P * 6 by omega), h.2.2.2.1 _ (show p * 6 + b < P * 6 by omega)]
  refine ⟨vp_in_nI (by omega) (by decide), ?_⟩
  rcases re_hd h.1 (i := p * 6 + a) (by omega) with z | ⟨e, e1, e2⟩
  · rw [z]; exact br_f nu_m1le (k1 z)
  · have na : ¬ hel (p * 6 + a) = -1 := fun q => absurd (q.symm.trans e2) (re_n1 (by omega))
    rw [e2]
    refine br_t (nI_pos' (by omega)) ⟨vp_in_nI (by omega) (by decide), ?_⟩
    rcases re_hd h.1 (i := p * 6 + b) (by omega) with y | ⟨f, f1, f2⟩
    · rw [y]
      exact br_t nu_m1lt (wx_probeGet (kd := 2) h hP hQ hp ha (fun q => absurd q na) (fun e' => k6 e' y) (fun e' => k4 e' y) (fun e' m S => k0 e' m S y) (fun e' m S => k5 e' m S y))
    · rw [f2]
      exact br_f (nI_pos (by omega)) (k2 na (fun q => absurd (q.symm.trans f2) (re_n1 (by omega))))
theorem wx_probeClose {p a : Nat} (h : zc P C Q L pv hel es ew qh qc qk qv mT mK mV) (hP : P ≤ 6) (hQ : Q ≤ 4) (hp : p < P) (ha : a < 6)
    (k1 : hel (p * 6 + a) = -1 → post 1) (k0 : ∀ e, e < 2 * C → hel (p * 6 + a) = nI e → ms_q e L = [] → post 0) (k7 : ∀ e, e < 2 * C → hel (p * 6 + a) = nI e → ¬ ms_q e L = [] → post 7) :
    wpX_probeClose post (tY, pR, cH, cP, stl, cD, vd, eK, eD, eP, stt, oC, tk, sa, sb, gK, gA, gB, cl, nC, dd, dp, dl, dm, pt, cO, cA, cB, cC, cx, cu, st, pd, pp, pa, pf, pv, es, ew, qh, qc, qk, qv, ou, cm) (nI p) (nI a) := by
  have E16 := h.1.1.1
  unfold wpX_probeClose
  dsimp only
  rw [vx, nI_clamp (show p * 6 + a < 2 ^ 31 by omega)]
  refine ⟨vp_in_nI (by omega) (by decide), nm_r (h.2.2.2.1 _ (by omega)) ?_⟩
  rcases re_hd h.1 (i := p * 6 + a) (by omega) with z | ⟨e, e1, e2⟩
  · rw [z]; exact br_f nu_m1le (k1 z)
  · obtain ⟨_, _, _, gc, gl, _⟩ := h.2.2.1 e e1
    rw [e2]
    refine br_t (nI_pos' (by omega)) ⟨vp_in_nI (by omega) (by decide), ?_⟩
    rw [nI_clamp (show e < 2 ^ 31 by omega), gc]
    refine br_c (fun y => k0 e e1 e2 ?_) (fun y => k7 e e1 e2 (fun q => y ?_))
    · exact List.eq_nil_of_length_eq_zero ((nu_le0 (by omega)).mp y)
    · rw [q]; decide
/-- the bound variables of p -/
def bv (hel : Nat → Int32) (p : Nat) : Nat → Int32 := fun j => hel (p * 6 + j)
theorem jm_ext {g g' : Nat → Int32} (h : ∀ v, v < 6 → g v = g' v) : jm g = jm g' := by
  unfold jm
  exact bm_m_ext 6 (fun j hj => by unfold cx_b; rw [h j hj])
theorem jm_pv {p : Nat} (h : zc P C Q L pv hel es ew qh qc qk qv mT mK mV) (hp : p < P) : jm (fun j => pv (p * 6 + j)) = jm (bv hel p) := jm_ext (fun v hv => h.2.2.2.1 _ (by omega))
theorem wx_probeJump {p d : Nat} (h : zc P C Q L pv hel es ew qh qc qk qv mT mK mV) (hP : P ≤ 6) (hp : p < P) (hd : d < 6)
    (k0 : ¬ dd d = 0 → dp d = nI (bm_c (jm (bv hel p)) 6) → post 0) (k4 : (dd d = 0 ∨ ¬ dp d = nI (bm_c (jm (bv hel p)) 6)) → post 4) : wpX_probeJump post (tY, pR, cH, cP, stl, cD, vd, eK, eD, eP, stt, oC, tk, sa, sb, gK, gA, gB, cl, nC, dd, dp, dl, dm, pt, cO, cA, cB, cC, cx, cu, st, pd, pp, pa, pf, pv, es, ew, qh, qc, qk, qv, ou, cm) (nI p) (nI d) := by
  have i1 : vp_in (nI d) 6 := vp_in_nI hd (by decide)
  unfold wpX_probeJump
  refine wx_boundMask (by omega) ?_
  rw [jm_pv h hp]
  refine wx_countBits (jm_64 _) ?_
  rw [nI_clamp (show d < 2 ^ 31 by omega)]
  exact ⟨i1, br_c (fun z => k4 (Or.inl z)) (fun z => ⟨i1, br_c (fun y => k0 z y) (fun y => k4 (Or.inr y))⟩)⟩
theorem wx_probeSpawn {p a b m : Nat} (h : zc P C Q L pv hel es ew qh qc qk qv mT mK mV) (hP : P ≤ 6) (hC : C ≤ 8) (hp : p < P) (ha : a < 6) (hb : b < 6) (hm : m < 64)
    (k2 : ¬ hel (p * 6 + a) = -1 → post 2) (k1 : hel (p * 6 + a) = -1 → ¬ nI m &&& nI (jm (bv hel p)) = nI m → post 1) (k4 : hel (p * 6 + a) = -1 → nI m &&& nI (jm (bv hel p)) = nI m → (dd b = 0 ∨ ¬ dp b = nI (1 + bm_c m 6)) → post 4)
    (k5 : hel (p * 6 + a) = -1 → nI m &&& nI (jm (bv hel p)) = nI m → ¬ dd b = 0 → dp b = nI (1 + bm_c m 6) → ((∀ c, c < P → ¬ st c = 0) ∨ (∀ c, c < C → ¬ es (2 * c) = 0)) → post (-5))
    (k0 : ∀ q c, hel (p * 6 + a) = -1 → nI m &&& nI (jm (bv hel p)) = nI m → ¬ dd b = 0 → dp b = nI (1 + bm_c m 6) → q < P → st q = 0 → (∀ j, j < q → ¬ st j = 0) → c < C → es (2 * c) = 0 → (∀ j, j < c → ¬ es (2 * j) = 0) → post 0) :
    wpX_probeSpawn post (tY, nI P, nI C, cP, stl, cD, vd, eK, eD, eP, stt, oC, tk, sa, sb, gK, gA, gB, cl, nC, dd, dp, dl, dm, pt, cO, cA, cB, cC, cx, cu, st, pd, pp, pa, pf, pv, es, ew, qh, qc, qk, qv, ou, cm) (nI p) (nI a) (nI b) (nI m) := by
  have E16 := h.1.1.1
  have i1 : vp_in (nI b) 6 := vp_in_nI hb (by decide)
  have cb := bm_c_le m 6
  unfold wpX_probeSpawn
  dsimp only
  rw [vx, nI_clamp (show p * 6 + a < 2 ^ 31 by omega), h.2.2.2.1 _ (show p * 6 + a < P * 6 by omega)]
  refine ⟨vp_in_nI (by omega) (by decide), ?_⟩
  rcases re_hd h.1 (i := p * 6 + a) (by omega) with z | ⟨e, e1, e2⟩
  · rw [z]
    refine br_t nu_m1lt ?_
    refine wx_boundMask (by omega) ?_
    rw [jm_pv h hp]
    have j64 := jm_64 (bv hel p)
    by_cases s : nI m &&& nI (jm (bv hel p)) = nI m
    · refine br_t ((bm_sub m hm _ j64).mpr s) ?_
      refine wx_countBits hm ?_
      rw [nI_clamp (show b < 2 ^ 31 by omega), show (1 : Int32) + nI (bm_c m 6) = nI (1 + bm_c m 6) from nI_add 1 _]
      refine ⟨i1, br_c (fun y => k4 z s (Or.inl y)) (fun y => ⟨i1, br_c (fun w => ?_) (fun w => k4 z s (Or.inr w))⟩)⟩
      refine wx_freeSlot hP (fun q q1 q2 q3 => br_f (nI_pos (by omega)) ?_) (fun n => br_t nu_m1lt (k5 z s y w (Or.inl n)))
      exact wx_freeChan hC (fun c c1 c2 c3 => br_t (nI_pos' (by omega)) (k0 q c z s y w q1 q2 q3 c1 c2 c3)) (fun n => br_f nu_m1le (k5 z s y w (Or.inr n)))
    · exact br_f (fun q => s ((bm_sub m hm _ j64).mp q)) (k1 z s)
  · rw [e2]
    exact br_f (nI_pos (by omega)) (k2 (fun q => absurd (q.symm.trans e2) (re_n1 (by omega))))
theorem wx_probeOpen {p a b : Nat} (h : zc P C Q L pv hel es ew qh qc qk qv mT mK mV) (hP : P ≤ 6) (hC : C ≤ 8) (hp : p < P) (ha : a < 6) (hb : b < 6)
    (k3 : a = b → post 3) (k2 : ¬ a = b → (¬ hel (p * 6 + a) = -1 ∨ ¬ hel (p * 6 + b) = -1) → post 2)
    (k5 : ¬ a = b → hel (p * 6 + a) = -1 → hel (p * 6 + b) = -1 → (∀ c, c < C → ¬ es (2 * c) = 0) → post (-5))
    (k0 : ∀ c, ¬ a = b → hel (p * 6 + a) = -1 → hel (p * 6 + b) = -1 → c < C → es (2 * c) = 0 → (∀ j, j < c → ¬ es (2 * j) = 0) → post 0) :
    wpX_probeOpen post (tY, pR, nI C, cP, stl, cD, vd, eK, eD, eP, stt, oC, tk, sa, sb, gK, gA, gB, cl, nC, dd, dp, dl, dm, pt, cO, cA, cB, cC, cx, cu, st, pd, pp, pa, pf, pv, es, ew, qh, qc, qk, qv, ou, cm) (nI p) (nI a) (nI b) := by
  have E16 := h.1.1.1
  unfold wpX_probeOpen
  dsimp only
  refine pk_eq a b k3 (fun n => ?_)
  rw [vx, vx, nI_clamp (show p * 6 + a < 2 ^ 31 by omega), nI_clamp (show p * 6 + b < 2 ^ 31 by omega), h.2.2.2.1 _ (show p * 6 + a < P * 6 by omega), h.2.2.2.1 _ (show p * 6 + b < P * 6 by omega)]
  refine ⟨vp_in_nI (by omega) (by decide), ?_⟩
  rcases re_hd h.1 (i := p * 6 + a) (by omega) with z | ⟨e, e1, e2⟩
  · rw [z]
    refine br_f nu_m1le ⟨vp_in_nI (by omega) (by decide), ?_⟩
    rcases re_hd h.1 (i := p * 6 + b) (by omega) with y | ⟨f, f1, f2⟩
    · rw [y]
      exact br_t nu_m1lt (wx_freeChan hC (fun c c1 c2 c3 => br_t (nI_pos' (by omega)) (k0 c n z y c1 c2 c3)) (fun w => br_f nu_m1le (k5 n z y w)))
    · rw [f2]
      exact br_f (nI_pos (by omega)) (k2 n (Or.inr (fun q => absurd (q.symm.trans f2) (re_n1 (by omega)))))
  · rw [e2]
    exact br_t (nI_pos' (by omega)) (k2 n (Or.inl (fun q => absurd (q.symm.trans e2) (re_n1 (by omega)))))
end PRX
end
section
section YLK
variable {tY pR cH cP stl cD vd eK eD eP stt oC mC : Int32} {tk sa sb gK gA gB cl nC dd dp dl dm pt cO cA cB cC cx cu st pd pp pa pf pv es ew qh qc qk qv ou cm eq du nx cd ct yd yp ya yf hel mT mK mV eu ev : Nat → Int32}
variable {T P C Q O : Nat} {K A B : Nat → Nat} {L : List MG} {post : Int32 → Prop}
/-! Y: what a step would answer -/
theorem jm_c {g : Nat → Int32} {v : Nat} (hv : v < 6) : bm_c (jm g) (v + 1) = bm_c (jm g) v + (if g v < 0 then 0 else 1) := by
  rw [bm_c]
  unfold bm_n
  by_cases z : g v < 0
  · rw [if_pos z, if_neg (fun q => (jm_b hv).mp q z)]
  · rw [if_neg z, if_pos ((jm_b hv).mpr z)]
theorem wy_l68 {p : Nat} (hp : p < 6) {x7 x8 x9 x10 x11 : Int32} (kk : ∀ n, wY_look_68 post (nI (p * 6)) x7 x8 x9 x10 x11 tY pR cH cP cD vd eK eD eP stt mC oC tk sa sb eq du nx dd dp dl dm pt cd ct st yd yp ya yf hel mT mK mV ou eu ev (n + 1) (nI (jm (bv hel p))) (nI (bm_c (jm (bv hel p)) 6)) (nI 6)) :
    ∀ n v, v ≤ 6 → 6 < n + v → wY_look_68 post (nI (p * 6)) x7 x8 x9 x10 x11 tY pR cH cP cD vd eK eD eP stt mC oC tk sa sb eq du nx dd dp dl dm pt cd ct st yd yp ya yf hel mT mK mV ou eu ev n (nI (bm_m (cx_b (bv hel p)) v)) (nI (bm_c (jm (bv hel p)) v)) (nI v) := by
  intro n
  induction n with
  | zero => intro v h1 h2; omega
  | succ n ih =>
    intro v h1 h2
    by_cases h : v = 6
    · subst h; exact kk n
    · have cs := jm_c (g := bv hel p) (v := v) (by omega)
      refine br_f (nI_ge (b := 6) (by omega) (by decide)) ?_
      rw [nI_add, nI_clamp (show p * 6 + v < 2 ^ 31 by omega)]
      refine ⟨vp_in_nI (by omega) (by decide), ?_⟩
      by_cases z : hel (p * 6 + v) < 0
      · refine br_t z (nm_r (nI_1 v) ?_)
        have e : bm_m (cx_b (bv hel p)) v = bm_m (cx_b (bv hel p)) (v + 1) := by
          rw [bm_m, if_neg (by unfold cx_b; rw [decide_eq_true_iff]; exact fun q => q z)]; rfl
        have z' : bv hel p v < 0 := z
        rw [if_pos z'] at cs
        rw [e, show bm_c (jm (bv hel p)) v = bm_c (jm (bv hel p)) (v + 1) by omega]
        exact ih (v + 1) (by omega) (by omega)
      · have z' : ¬ bv hel p v < 0 := z
        rw [if_neg z'] at cs
        refine br_f z (nm_r (e' := nI (bm_m (cx_b (bv hel p)) (v + 1))) ?_ (nm_r (e' := nI (bm_c (jm (bv hel p)) (v + 1))) (by rw [nI_1, cs]) (nm_r (nI_1 v) (ih (v + 1) (by omega) (by omega)))))
        rw [bm_sh v (by omega), nI_add, bm_m, if_pos (by unfold cx_b; rw [decide_eq_true_iff]; exact z)]
theorem wy_look {p d i o : Nat} {x y z : Int32} (hp : p < 6) (hd : d < 6) (hi : i < 24) (hyd : yd p = nI d) (hyp : yp p = nI i) (h0 : cd ((d * 24 + i) * 4) = nI o) (h1 : cd ((d * 24 + i) * 4 + 1) = x) (h2 : cd ((d * 24 + i) * 4 + 2) = y) (h3 : cd ((d * 24 + i) * 4 + 3) = z)
    (kk : ∀ n, wY_look_68 post (nI (p * 6)) 1 (nI o) x y z tY pR cH cP cD vd eK eD eP stt mC oC tk sa sb eq du nx dd dp dl dm pt cd ct st yd yp ya yf hel mT mK mV ou eu ev (n + 1) (nI (jm (bv hel p))) (nI (bm_c (jm (bv hel p)) 6)) (nI 6)) : wpY_look post (tY, pR, cH, cP, cD, vd, eK, eD, eP, stt, mC, oC, tk, sa, sb, eq, du, nx, dd, dp, dl, dm, pt, cd, ct, st, yd, yp, ya, yf, hel, mT, mK, mV, ou, eu, ev) (nI p) := by
  have i1 : vp_in (nI p) 6 := vp_in_nI hp (by decide)
  unfold wpY_look
  dsimp only
  rw [nI_clamp (show p < 2 ^ 31 by omega)]
  refine ⟨i1, nm_r hyd ⟨i1, nm_r hyp (nm_r (nu_m6 p) ?_)⟩⟩
  refine wy_at (f := 0) hd hi (by omega) ?_
  refine wy_at (f := 1) hd hi (by omega) ?_
  refine wy_at (f := 2) hd hi (by omega) ?_
  refine wy_at (f := 3) hd hi (by omega) ?_
  rw [Nat.add_zero, h0, h1, h2, h3]
  exact ⟨7, wy_l68 hp kk 7 0 (by omega) (by omega)⟩
theorem wy_lstop {x7 x9 x10 x11 x5 : Int32} {c : Nat} {x4 : Int32} (hc : c ≤ 6) (k2 : c = 0 → post 2) (k8 : ¬ c = 0 → post (-8)) (n : Nat) : wY_look_68 post x4 x7 (nI 0) x9 x10 x11 tY pR cH cP cD vd eK eD eP stt mC oC tk sa sb eq du nx dd dp dl dm pt cd ct st yd yp ya yf hel mT mK mV ou eu ev (n + 1) x5 (nI c) (nI 6) :=
  br_t (nI_le (a := 6) (b := 6) (by omega) (by decide)) (br_t rfl (br_c (fun z => k2 ((nu_le0 (by omega)).mp z)) (fun z => k8 (fun q => z (by rw [q]; decide)))))
theorem wy_ljump {x7 x10 x11 x5 : Int32} {c d : Nat} {x4 : Int32} (hd : d < 6) (k1 : ¬ dd d = 0 → dp d = nI c → post 1) (k4 : (dd d = 0 ∨ ¬ dp d = nI c) → post (-4)) (n : Nat) : wY_look_68 post x4 x7 (nI 1) (nI d) x10 x11 tY pR cH cP cD vd eK eD eP stt mC oC tk sa sb eq du nx dd dp dl dm pt cd ct st yd yp ya yf hel mT mK mV ou eu ev (n + 1) x5 (nI c) (nI 6) := by
  have i1 : vp_in (nI d) 6 := vp_in_nI hd (by decide)
  refine br_t (nI_le (a := 6) (b := 6) (by omega) (by decide)) (br_f (by decide) (br_t rfl ⟨i1, ?_⟩))
  rw [nI_clamp (show d < 2 ^ 31 by omega)]
  exact br_c (fun z => k4 (Or.inl z)) (fun z => ⟨i1, br_c (fun y => k1 z y) (fun y => k4 (Or.inr y))⟩)
theorem wy_lsim {x4 x7 x9 x10 x11 x5 x6 : Int32} {o : Nat} (h2 : 2 ≤ o) (h6 : o < 6) (k : post 1) (n : Nat) : wY_look_68 post x4 x7 (nI o) x9 x10 x11 tY pR cH cP cD vd eK eD eP stt mC oC tk sa sb eq du nx dd dp dl dm pt cd ct st yd yp ya yf hel mT mK mV ou eu ev (n + 1) x5 x6 (nI 6) :=
  br_t (nI_le (a := 6) (b := 6) (by omega) (by decide)) (pk_eq o 0 (fun q => by omega) (fun _ => pk_eq o 1 (fun q => by omega) (fun _ => br_f (nI_nlt (a := 5) (by omega) (by omega)) k)))
/-- from the loop's end to the reads of the two variables -/
theorem wy_l6 {x7 x5 x6 y z : Int32} {o p a : Nat} (hp : p < 6) (ha : a < 6) (h6 : 6 ≤ o) (ho : o < 15)
    (k : ∀ x14 x15 : Int32, x14 = hel (p * 6 + a) → ((o = 8 ∨ o = 9 ∨ o = 14) → ∀ b, b < 6 → y = nI b → x15 = hel (p * 6 + b)) → (¬ (o = 8 ∨ o = 9 ∨ o = 14) → x15 = -1) → wY_look_226 post x5 x7 (nI o) (nI a) y z (if o = 13 ∨ o = 14 then 1 else 0) x14 x15 tY pR cH cP cD vd eK eD eP stt mC oC tk sa sb eq du nx dd dp dl dm pt cd ct st yd yp ya yf hel mT mK mV ou eu ev) (hy : (o = 8 ∨ o = 9 ∨ o = 14) → ∃ b, b < 6 ∧ y = nI b) (n : Nat) :
    wY_look_68 post (nI (p * 6)) x7 (nI o) (nI a) y z tY pR cH cP cD vd eK eD eP stt mC oC tk sa sb eq du nx dd dp dl dm pt cd ct st yd yp ya yf hel mT mK mV ou eu ev (n + 1) x5 x6 (nI 6) := by
  refine br_t (nI_le (a := 6) (b := 6) (by omega) (by decide)) (pk_eq o 0 (fun q => by omega) (fun _ => pk_eq o 1 (fun q => by omega) (fun _ => br_t (nI_lt (a := 5) (by omega) (by omega)) ?_)))
  refine wy_usesY ho ?_
  have t193 : ∀ z0 : Int32, z0 = (if o = 13 ∨ o = 14 then 1 else 0) → wY_look_193 post (nI (p * 6)) x5 x7 (nI o) (nI a) y z (if o = 8 ∨ o = 9 ∨ o = 14 then 1 else 0) z0 tY pR cH cP cD vd eK eD eP stt mC oC tk sa sb eq du nx dd dp dl dm pt cd ct st yd yp ya yf hel mT mK mV ou eu ev := fun z0 hz => by
    unfold wY_look_193
    rw [nI_add, nI_clamp (show p * 6 + a < 2 ^ 31 by omega), hz]
    refine ⟨vp_in_nI (by omega) (by decide), nm_e ?_⟩
    by_cases q : o = 8 ∨ o = 9 ∨ o = 14
    · obtain ⟨b, b1, b2⟩ := hy q
      rw [if_pos q, b2, nI_add, nI_clamp (show p * 6 + b < 2 ^ 31 by omega)]
      refine br_f nu_10 ⟨vp_in_nI (by omega) (by decide), ?_⟩
      have := k (hel (p * 6 + a)) (hel (p * 6 + b)) rfl (fun _ b' b1' b2' => ?_) (fun w => absurd q w)
      · rw [b2] at this; exact this
      · have : b = b' := (nI_eq (by omega) (by omega)).mp (b2.symm.trans b2')
        rw [this]
    · rw [if_neg q]
      exact br_t rfl (k _ _ rfl (fun w => absurd w q) (fun _ => rfl))
  refine pk_eq o 13 (fun q => t193 1 (by rw [if_pos (Or.inl q)])) (fun q13 => pk_eq o 14 (fun q => t193 1 (by rw [if_pos (Or.inr q)])) (fun q14 => t193 0 (by rw [if_neg (by omega)])))
theorem nu_ne {a b : Nat} (ha : a < 64) (hb : b < 64) (h : ¬ a = b) : ¬ nI a = nI b := fun q => h ((nI_eq (by omega) (by omega)).mp q)
/-- the tests ahead of the channel's own, for an instruction that isn't spawn or open -/
theorem wy_l226 {x5 x7 x9 x10 x11 x14 x15 : Int32} {o : Nat} (ho : o < 15) (n13 : ¬ o = 13) (n14 : ¬ o = 14) (k3 : o = 8 → x9 = x10 → post (-3)) (k1 : (o = 8 → ¬ x9 = x10) → (x14 < 0 ∨ (o = 8 ∧ x15 < 0)) → post (-1)) (k2 : ¬ x14 < 0 → o = 9 → ¬ x15 < 0 → post (-2))
    (k : (o = 8 → ¬ x9 = x10) → ¬ x14 < 0 → (o = 8 → ¬ x15 < 0) → (o = 9 → x15 < 0) → wY_look_309 post x5 x7 (nI o) x10 x11 x14 tY pR cH cP cD vd eK eD eP stt mC oC tk sa sb eq du nx dd dp dl dm pt cd ct st yd yp ya yf hel mT mK mV ou eu ev) : wY_look_226 post x5 x7 (nI o) x9 x10 x11 0 x14 x15 tY pR cH cP cD vd eK eD eP stt mC oC tk sa sb eq du nx dd dp dl dm pt cd ct st yd yp ya yf hel mT mK mV ou eu ev := by
  have t252 : (o = 8 → ¬ x9 = x10) → wY_look_252 post x5 x7 (nI o) x10 x11 0 x14 x15 tY pR cH cP cD vd eK eD eP stt mC oC tk sa sb eq du nx dd dp dl dm pt cd ct st yd yp ya yf hel mT mK mV ou eu ev := fun h => by
    refine br_t rfl (br_t rfl (br_c (fun z => k1 h (Or.inl z)) (fun z => ?_)))
    have t294 : (o = 8 → ¬ x15 < 0) → wY_look_294 post x5 x7 (nI o) x10 x11 x14 x15 tY pR cH cP cD vd eK eD eP stt mC oC tk sa sb eq du nx dd dp dl dm pt cd ct st yd yp ya yf hel mT mK mV ou eu ev := fun h8 => by
      unfold wY_look_294
      refine pk_eq o 9 (fun q => br_c (fun y => k h z h8 (fun _ => y)) (fun y => k2 z q y)) (fun q => k h z h8 (fun p => absurd p q))
    refine pk_eq o 8 (fun q => ?_) (fun q => t294 (fun p => absurd p q))
    by_cases y : x15 < 0
    · exact br_f (Int32.not_le.mpr y) (k1 h (Or.inr ⟨q, y⟩))
    · exact br_t (Int32.not_lt.mp y) (t294 (fun _ => y))
  unfold wY_look_226
  refine pk_eq o 8 (fun q => br_c (fun z => k3 q z) (fun z => t252 (fun _ => z))) (fun q8 => pk_eq o 14 (fun q => absurd q n14) (fun _ => t252 (fun p => absurd p q8)))
theorem wy_l309p {x5 x7 x10 x11 : Int32} {o e : Nat} (h : zc P C Q L pv hel es ew qh qc qk qv mT mK mV) (hQ : Q ≤ 4) (ho : o = 6 ∨ o = 8 ∨ o = 10) (he : e < 2 * C) (ha : es e = 1)
    (k6 : es (pr e) = 3 → post (-6)) (k1 : (es (pr e) = 1 ∨ es (pr e) = 2) → (ms_q (pr e) L).length < Q → post 1) (k4 : (es (pr e) = 1 ∨ es (pr e) = 2) → ¬ (ms_q (pr e) L).length < Q → post 4) : wY_look_309 post x5 x7 (nI o) x10 x11 (nI e) tY pR (nI C) (nI Q) cD vd eK eD eP stt (nI L.length) oC tk sa sb eq du nx dd dp dl dm pt cd ct st yd yp ya yf hel mT mK mV ou eu ev := by
  have E16 := h.1.1.1
  obtain ⟨q1, q2, q3⟩ := zc_q h hQ
  have pe := pr_lt he h.1.1.2
  have al := re_peer h.1 he (Or.inl ha)
  unfold wY_look_309
  rw [pr_x e (by omega)]
  have t475 : ∀ r : Int32, (r = 0 → es (pr e) = 3) → (¬ r = 0 → (es (pr e) = 1 ∨ es (pr e) = 2)) → wY_look_475 post (nI e) r tY pR (nI C) (nI Q) cD vd eK eD eP stt (nI L.length) oC tk sa sb eq du nx dd dp dl dm pt cd ct st yd yp ya yf hel mT mK mV ou eu ev := fun r r0 r1 => by
    unfold wY_look_475
    rw [pr_x e (by omega)]
    refine br_c (fun z => k6 (r0 z)) (fun z => wy_inbound h.2.1 q3 q1 (by omega) ?_)
    have := q2 (pr e)
    exact pk_lt _ _ (fun w => k1 (r1 z) w) (fun w => k4 (r1 z) (by omega))
  refine br_f (nu_ne (b := 14) (by omega) (by omega) (by omega)) (br_f (nu_ne (b := 13) (by omega) (by omega) (by omega)) (br_f (nu_ne (b := 12) (by omega) (by omega) (by omega)) ?_))
  have fin : ∀ r : Int32, (r = 0 → es (pr e) = 3) → (¬ r = 0 → (es (pr e) = 1 ∨ es (pr e) = 2)) → ((nI o = 6 → wY_look_475 post (nI e) r tY pR (nI C) (nI Q) cD vd eK eD eP stt (nI L.length) oC tk sa sb eq du nx dd dp dl dm pt cd ct st yd yp ya yf hel mT mK mV ou eu ev) ∧ (¬ nI o = 6 → ((nI o = 8 → wY_look_475 post (nI e) r tY pR (nI C) (nI Q) cD vd eK eD eP stt (nI L.length) oC tk sa sb eq du nx dd dp dl dm pt cd ct st yd yp ya yf hel mT mK mV ou eu ev) ∧ (¬ nI o = 8 → ((nI o = 10 → wY_look_475 post (nI e) r tY pR (nI C) (nI Q) cD vd eK eD eP stt (nI L.length) oC tk sa sb eq du nx dd dp dl dm pt cd ct st yd yp ya yf hel mT mK mV ou eu ev) ∧ (¬ nI o = 10 → wpY_find (fun r_293 => (((0 ≤ r_293 → (vp_in r_293 64 ∧ (((nI o = 7 → (wY_look_560 post 1 (mK r_293.toNatClampNeg) tY pR (nI C) (nI Q) cD vd eK eD eP stt (nI L.length) oC tk sa sb eq du nx dd dp dl dm pt cd ct st yd yp ya yf hel mT mK mV ou eu ev)) ∧ (¬ nI o = 7 → (((nI o = 9 → (wY_look_560 post 2 (mK r_293.toNatClampNeg) tY pR (nI C) (nI Q) cD vd eK eD eP stt (nI L.length) oC tk sa sb eq du nx dd dp dl dm pt cd ct st yd yp ya yf hel mT mK mV ou eu ev)) ∧ (¬ nI o = 9 → (wY_look_560 post 3 (mK r_293.toNatClampNeg) tY pR (nI C) (nI Q) cD vd eK eD eP stt (nI L.length) oC tk sa sb eq du nx dd dp dl dm pt cd ct st yd yp ya yf hel mT mK mV ou eu ev))))))))) ∧ (¬ 0 ≤ r_293 → (((r = 0 → (post (-6))) ∧ (¬ r = 0 → (post 4)))))))) (tY, pR, nI C, nI Q, cD, vd, eK, eD, eP, stt, nI L.length, oC, tk, sa, sb, eq, du, nx, dd, dp, dl, dm, pt, cd, ct, st, yd, yp, ya, yf, hel, mT, mK, mV, ou, eu, ev) (nI e) 0)))))) := fun r r0 r1 => by
    rcases ho with ho | ho | ho
    · subst ho; exact br_t rfl (t475 r r0 r1)
    · subst ho; exact br_f (by decide) (br_t rfl (t475 r r0 r1))
    · subst ho; exact br_f (by decide) (br_f (by decide) (br_t rfl (t475 r r0 r1)))
  refine wy_alive h.1 h.2.1 q3 pe (fun w => fin 1 (fun q => absurd q nu_10) (fun _ => w)) (fun w => fin 0 (fun _ => ?_) (fun q => absurd rfl q))
  rcases w with w | w
  · exact w
  · rcases al with g | g | g <;> rw [w] at g <;> exact absurd g (by decide)
theorem wy_l309g {x5 x7 x10 x11 : Int32} {o e kd : Nat} (h : zc P C Q L pv hel es ew qh qc qk qv mT mK mV) (hQ : Q ≤ 4) (ho : (o = 7 ∧ kd = 1) ∨ (o = 9 ∧ kd = 2) ∨ (o = 11 ∧ kd = 3)) (he : e < 2 * C) (ha : es e = 1)
    (k6 : ms_q e L = [] → es (pr e) = 3 → post (-6)) (k4 : ms_q e L = [] → (es (pr e) = 1 ∨ es (pr e) = 2) → post 4) (k1 : ∀ m S, ms_q e L = m :: S → m.2.1 = nI kd → post 1) (k5 : ∀ m S, ms_q e L = m :: S → ¬ m.2.1 = nI kd → post (-5)) : wY_look_309 post x5 x7 (nI o) x10 x11 (nI e) tY pR (nI C) (nI Q) cD vd eK eD eP stt (nI L.length) oC tk sa sb eq du nx dd dp dl dm pt cd ct st yd yp ya yf hel mT mK mV ou eu ev := by
  have E16 := h.1.1.1
  obtain ⟨q1, q2, q3⟩ := zc_q h hQ
  have pe := pr_lt he h.1.1.2
  have al := re_peer h.1 he (Or.inl ha)
  unfold wY_look_309
  rw [pr_x e (by omega)]
  refine br_f (nu_ne (b := 14) (by omega) (by omega) (by omega)) (br_f (nu_ne (b := 13) (by omega) (by omega) (by omega)) (br_f (nu_ne (b := 12) (by omega) (by omega) (by omega)) ?_))
  have t560 : ∀ x : Int32, (x = nI kd → post 1) → (¬ x = nI kd → post (-5)) → ((nI o = 7 → wY_look_560 post 1 x tY pR (nI C) (nI Q) cD vd eK eD eP stt (nI L.length) oC tk sa sb eq du nx dd dp dl dm pt cd ct st yd yp ya yf hel mT mK mV ou eu ev) ∧ (¬ nI o = 7 → ((nI o = 9 → wY_look_560 post 2 x tY pR (nI C) (nI Q) cD vd eK eD eP stt (nI L.length) oC tk sa sb eq du nx dd dp dl dm pt cd ct st yd yp ya yf hel mT mK mV ou eu ev) ∧ (¬ nI o = 9 → wY_look_560 post 3 x tY pR (nI C) (nI Q) cD vd eK eD eP stt (nI L.length) oC tk sa sb eq du nx dd dp dl dm pt cd ct st yd yp ya yf hel mT mK mV ou eu ev)))) := fun x x1 x5 => by
    rcases ho with ⟨ho, hk⟩ | ⟨ho, hk⟩ | ⟨ho, hk⟩
    · subst ho; subst hk; exact br_t rfl (br_c x1 x5)
    · subst ho; subst hk; exact br_f (by decide) (br_t rfl (br_c x1 x5))
    · subst ho; subst hk; exact br_f (by decide) (br_f (by decide) (br_c x1 x5))
  have find : ∀ r : Int32, (r = 0 → es (pr e) = 3) → (¬ r = 0 → (es (pr e) = 1 ∨ es (pr e) = 2)) → wpY_find (fun r_293 => (((0 ≤ r_293 → (vp_in r_293 64 ∧ (((nI o = 7 → (wY_look_560 post 1 (mK r_293.toNatClampNeg) tY pR (nI C) (nI Q) cD vd eK eD eP stt (nI L.length) oC tk sa sb eq du nx dd dp dl dm pt cd ct st yd yp ya yf hel mT mK mV ou eu ev)) ∧ (¬ nI o = 7 → (((nI o = 9 → (wY_look_560 post 2 (mK r_293.toNatClampNeg) tY pR (nI C) (nI Q) cD vd eK eD eP stt (nI L.length) oC tk sa sb eq du nx dd dp dl dm pt cd ct st yd yp ya yf hel mT mK mV ou eu ev)) ∧ (¬ nI o = 9 → (wY_look_560 post 3 (mK r_293.toNatClampNeg) tY pR (nI C) (nI Q) cD vd eK eD eP stt (nI L.length) oC tk sa sb eq du nx dd dp dl dm pt cd ct st yd yp ya yf hel mT mK mV ou eu ev))))))))) ∧ (¬ 0 ≤ r_293 → (((r = 0 → (post (-6))) ∧ (¬ r = 0 → (post 4)))))))) (tY, pR, nI C, nI Q, cD, vd, eK, eD, eP, stt, nI L.length, oC, tk, sa, sb, eq, du, nx, dd, dp, dl, dm, pt, cd, ct, st, yd, yp, ya, yf, hel, mT, mK, mV, ou, eu, ev) (nI e) 0 := fun r r0 r1 => by
    refine wy_find (i := 0) h.2.1 q3 q1 (by omega) (by omega) (fun hq => br_f nu_m1le ?_) (fun q hq => ?_)
    · have nil : ms_q e L = [] := by
        rcases ms_f_spec e 0 L 0 0 (Nat.zero_le _) with ⟨_, z⟩ | ⟨_, m', z, _, _⟩
        · cases hl : ms_q e L with
          | nil => rfl
          | cons m S => rw [hl] at z; cases z
        · rw [z] at hq; cases hq
      exact br_c (fun z => k6 nil (r0 z)) (fun z => k4 nil (r1 z))
    · rcases ms_f_spec e 0 L 0 0 (Nat.zero_le _) with ⟨z, _⟩ | ⟨j, m, z1, z2, z3⟩
      · rw [z] at hq; cases hq
      · rw [z1, Nat.zero_add] at hq
        have := Option.some.inj hq
        subst this
        have jl : j < L.length := by
          rcases Nat.lt_or_ge j L.length with l | l
          · exact l
          · rw [List.getElem?_eq_none l] at z2; cases z2
        obtain ⟨S, hS⟩ : ∃ S, ms_q e L = m :: S := by
          cases hl : ms_q e L with
          | nil => rw [hl] at z3; cases z3
          | cons m' S => rw [hl] at z3; have := Option.some.inj z3; rw [this]; exact ⟨S, rfl⟩
        refine br_t (nI_pos' (by omega)) ⟨vp_in_nI (by omega) (by decide), ?_⟩
        rw [nI_clamp (by omega), (h.2.1 j m z2).2.1]
        exact t560 _ (fun w => k1 m S hS w) (fun w => k5 m S hS w)
  have fin : ∀ r : Int32, (r = 0 → es (pr e) = 3) → (¬ r = 0 → (es (pr e) = 1 ∨ es (pr e) = 2)) → ((nI o = 6 → wY_look_475 post (nI e) r tY pR (nI C) (nI Q) cD vd eK eD eP stt (nI L.length) oC tk sa sb eq du nx dd dp dl dm pt cd ct st yd yp ya yf hel mT mK mV ou eu ev) ∧ (¬ nI o = 6 → ((nI o = 8 → wY_look_475 post (nI e) r tY pR (nI C) (nI Q) cD vd eK eD eP stt (nI L.length) oC tk sa sb eq du nx dd dp dl dm pt cd ct st yd yp ya yf hel mT mK mV ou eu ev) ∧ (¬ nI o = 8 → ((nI o = 10 → wY_look_475 post (nI e) r tY pR (nI C) (nI Q) cD vd eK eD eP stt (nI L.length) oC tk sa sb eq du nx dd dp dl dm pt cd ct st yd yp ya yf hel mT mK mV ou eu ev) ∧ (¬ nI o = 10 → wpY_find (fun r_293 => (((0 ≤ r_293 → (vp_in r_293 64 ∧ (((nI o = 7 → (wY_look_560 post 1 (mK r_293.toNatClampNeg) tY pR (nI C) (nI Q) cD vd eK eD eP stt (nI L.length) oC tk sa sb eq du nx dd dp dl dm pt cd ct st yd yp ya yf hel mT mK mV ou eu ev)) ∧ (¬ nI o = 7 → (((nI o = 9 → (wY_look_560 post 2 (mK r_293.toNatClampNeg) tY pR (nI C) (nI Q) cD vd eK eD eP stt (nI L.length) oC tk sa sb eq du nx dd dp dl dm pt cd ct st yd yp ya yf hel mT mK mV ou eu ev)) ∧ (¬ nI o = 9 → (wY_look_560 post 3 (mK r_293.toNatClampNeg) tY pR (nI C) (nI Q) cD vd eK eD eP stt (nI L.length) oC tk sa sb eq du nx dd dp dl dm pt cd ct st yd yp ya yf hel mT mK mV ou eu ev))))))))) ∧ (¬ 0 ≤ r_293 → (((r = 0 → (post (-6))) ∧ (¬ r = 0 → (post 4)))))))) (tY, pR, nI C, nI Q, cD, vd, eK, eD, eP, stt, nI L.length, oC, tk, sa, sb, eq, du, nx, dd, dp, dl, dm, pt, cd, ct, st, yd, yp, ya, yf, hel, mT, mK, mV, ou, eu, ev) (nI e) 0)))))) := fun r r0 r1 =>
    br_f (nu_ne (b := 6) (by omega) (by omega) (by omega)) (br_f (nu_ne (b := 8) (by omega) (by omega) (by omega)) (br_f (nu_ne (b := 10) (by omega) (by omega) (by omega)) (find r r0 r1)))
  refine wy_alive h.1 h.2.1 q3 pe (fun w => fin 1 (fun q => absurd q nu_10) (fun _ => w)) (fun w => fin 0 (fun _ => ?_) (fun q => absurd rfl q))
  rcases w with w | w
  · exact w
  · rcases al with g | g | g <;> rw [w] at g <;> exact absurd g (by decide)
theorem wy_l309c {x5 x7 x10 x11 : Int32} {e : Nat} (h : zc P C Q L pv hel es ew qh qc qk qv mT mK mV) (hQ : Q ≤ 4) (he : e < 2 * C) (k1 : ms_q e L = [] → post 1) (k7 : ¬ ms_q e L = [] → post (-7)) : wY_look_309 post x5 x7 (nI 12) x10 x11 (nI e) tY pR (nI C) (nI Q) cD vd eK eD eP stt (nI L.length) oC tk sa sb eq du nx dd dp dl dm pt cd ct st yd yp ya yf hel mT mK mV ou eu ev := by
  have E16 := h.1.1.1
  obtain ⟨q1, q2, q3⟩ := zc_q h hQ
  unfold wY_look_309
  refine br_f (by decide) (br_f (by decide) (br_t rfl ?_))
  refine wy_inbound h.2.1 q3 q1 (by omega) ?_
  have := q2 e
  refine br_c (fun y => k1 ?_) (fun y => k7 (fun q => y ?_))
  · exact List.eq_nil_of_length_eq_zero ((nu_le0 (by omega)).mp y)
  · rw [q]; decide
theorem wy_l351 {b m c : Nat} (h : zc P C Q L pv hel es ew qh qc qk qv mT mK mV) (hQ : Q ≤ 4) (hP : P ≤ 6) (hb : b < 6) (hm : m < 64)
    (k4 : (dd b = 0 ∨ ¬ dp b = nI (1 + bm_c m 6)) → post (-4)) (k5 : ¬ dd b = 0 → dp b = nI (1 + bm_c m 6) → ((∀ c, c < P → ¬ st c = 0) ∨ (∀ c, c < C → ¬ es (2 * c) = 0)) → post 5)
    (k1 : ¬ dd b = 0 → dp b = nI (1 + bm_c m 6) → (∃ q, q < P ∧ st q = 0) → (∃ c, c < C ∧ es (2 * c) = 0) → post 1) :
    ∀ n v, v ≤ 6 → 6 < n + v → wY_look_351 post (nI b) (nI m) tY (nI P) (nI C) cP cD vd eK eD eP stt (nI L.length) oC tk sa sb eq du nx dd dp dl dm pt cd ct st yd yp ya yf hel mT mK mV ou eu ev n (nI (1 + bm_c m v)) (nI v) := by
  have E16 := h.1.1.1
  have i1 : vp_in (nI b) 6 := vp_in_nI hb (by decide)
  obtain ⟨q1, q2, q3⟩ := zc_q h hQ
  intro n
  induction n with
  | zero => intro v h1 h2; omega
  | succ n ih =>
    intro v h1 h2
    by_cases e : v = 6
    · subst e
      refine br_t (nI_le (a := 6) (b := 6) (by omega) (by decide)) ⟨i1, ?_⟩
      rw [nI_clamp (show b < 2 ^ 31 by omega)]
      refine br_c (fun y => k4 (Or.inl y)) (fun y => ⟨i1, br_c (fun w => ?_) (fun w => k4 (Or.inr w))⟩)
      refine wy_freeSlot hP (fun q q1 q2 q3' => br_f (nI_pos (by omega)) ?_) (fun n => br_t nu_m1lt (k5 y w (Or.inl n)))
      exact wy_freeChan h.1 h.2.1 q3 (fun c c1 c2 c3 => br_t (nI_pos' (by omega)) (k1 y w ⟨q, q1, q2⟩ ⟨c, c1, c2⟩)) (fun n => br_f nu_m1le (k5 y w (Or.inr n)))
    · refine br_f (nI_ge (b := 6) (by omega) (by decide)) (nm_r (e' := nI (1 + bm_c m (v + 1))) ?_ (nm_r (nI_1 v) (ih (v + 1) (by omega) (by omega))))
      rw [bm_sr v (by omega) m hm, nI_add, bm_c, Nat.add_assoc]
theorem wy_lspawn {x4 : Int32} {b m p : Nat} {x14 : Int32} (h : zc P C Q L pv hel es ew qh qc qk qv mT mK mV) (hQ : Q ≤ 4) (hP : P ≤ 6) (hb : b < 6) (hm : m < 64)
    (k2 : ¬ x14 < 0 → post (-2)) (k1' : x14 < 0 → ¬ nI m &&& nI (jm (bv hel p)) = nI m → post (-1)) (k4 : x14 < 0 → nI m &&& nI (jm (bv hel p)) = nI m → (dd b = 0 ∨ ¬ dp b = nI (1 + bm_c m 6)) → post (-4)) (k5 : x14 < 0 → nI m &&& nI (jm (bv hel p)) = nI m → ¬ dd b = 0 → dp b = nI (1 + bm_c m 6) → ((∀ c, c < P → ¬ st c = 0) ∨ (∀ c, c < C → ¬ es (2 * c) = 0)) → post 5)
    (k1 : x14 < 0 → nI m &&& nI (jm (bv hel p)) = nI m → ¬ dd b = 0 → dp b = nI (1 + bm_c m 6) → (∃ q, q < P ∧ st q = 0) → (∃ c, c < C ∧ es (2 * c) = 0) → post 1) :
    wY_look_226 post (nI (jm (bv hel p))) 1 (nI 13) x4 (nI b) (nI m) 1 x14 (-1) tY (nI P) (nI C) cP cD vd eK eD eP stt (nI L.length) oC tk sa sb eq du nx dd dp dl dm pt cd ct st yd yp ya yf hel mT mK mV ou eu ev := by
  refine br_f (by decide) (br_f (by decide) (br_f nu_10 ?_))
  by_cases z : x14 < 0
  · refine br_f (Int32.not_le.mpr z) (br_t nu_m1lt (br_f nu_10 (br_f (by decide) (br_f (by decide) (br_t rfl (br_c (fun s => ⟨7, ?_⟩) (fun s => k1' z s)))))))
    exact wy_l351 (c := 0) h hQ hP hb hm (k4 z s) (k5 z s) (k1 z s) 7 0 (by omega) (by omega)
  · exact br_t (Int32.not_lt.mp z) (k2 z)
theorem wy_lopen {x5 x9 x10 x11 x14 x15 : Int32} (h : zc P C Q L pv hel es ew qh qc qk qv mT mK mV) (hQ : Q ≤ 4)
    (k3 : x9 = x10 → post (-3)) (k2 : ¬ x9 = x10 → (¬ x14 < 0 ∨ ¬ x15 < 0) → post (-2)) (k5 : ¬ x9 = x10 → x14 < 0 → x15 < 0 → (∀ c, c < C → ¬ es (2 * c) = 0) → post 5) (k1 : ¬ x9 = x10 → x14 < 0 → x15 < 0 → (∃ c, c < C ∧ es (2 * c) = 0) → post 1) :
    wY_look_226 post x5 1 (nI 14) x9 x10 x11 1 x14 x15 tY pR (nI C) cP cD vd eK eD eP stt (nI L.length) oC tk sa sb eq du nx dd dp dl dm pt cd ct st yd yp ya yf hel mT mK mV ou eu ev := by
  have E16 := h.1.1.1
  obtain ⟨q1, q2, q3⟩ := zc_q h hQ
  refine br_f (by decide) (br_t rfl (br_c k3 (fun n => br_f nu_10 ?_)))
  by_cases z : x14 < 0
  · refine br_f (Int32.not_le.mpr z) (br_c (fun y => ?_) (fun y => k2 n (Or.inr y)))
    refine br_f nu_10 (br_f (by decide) (br_t rfl ?_))
    exact wy_freeChan h.1 h.2.1 q3 (fun c c1 c2 c3 => br_t (nI_pos' (by omega)) (k1 n z y ⟨c, c1, c2⟩)) (fun w => br_f nu_m1le (k5 n z y w))
  · exact br_t (Int32.not_lt.mp z) (k2 n (Or.inl z))
end YLK
end
section
section PBB
variable {tY pR cH cP stl cD vd eK eD eP stt oC mC : Int32} {tk sa sb gK gA gB cl nC dd dp dl dm pt cO cA cB cC cx cu st pd pp pa pf pv es ew qh qc qk qv ou cm eq du nx cd ct yd yp ya yf hel mT mK mV eu ev : Nat → Int32}
variable {T P C Q O : Nat} {K A B : Nat → Nat} {L : List MG}
/-! both: what a step would answer -/
theorem wx_probe {post : Int32 → Prop} {p d i o : Nat} {x y z : Int32} (hp : p < 6) (hd : d < 6) (hi : i < 24) (hpd : pd p = nI d) (hpp : pp p = nI i) (ho : o < 15) (h0 : cO (d * 24 + i) = nI o) (h1 : cA (d * 24 + i) = x) (h2 : cB (d * 24 + i) = y) (h3 : cC (d * 24 + i) = z)
    (k0 : o = 0 → wpX_boundMask (fun r => (((r = 0 → (post 0)) ∧ (¬ r = 0 → (post 8))))) (tY, pR, cH, cP, stl, cD, vd, eK, eD, eP, stt, oC, tk, sa, sb, gK, gA, gB, cl, nC, dd, dp, dl, dm, pt, cO, cA, cB, cC, cx, cu, st, pd, pp, pa, pf, pv, es, ew, qh, qc, qk, qv, ou, cm) (nI p)) (k1 : o = 1 → wpX_probeJump post (tY, pR, cH, cP, stl, cD, vd, eK, eD, eP, stt, oC, tk, sa, sb, gK, gA, gB, cl, nC, dd, dp, dl, dm, pt, cO, cA, cB, cC, cx, cu, st, pd, pp, pa, pf, pv, es, ew, qh, qc, qk, qv, ou, cm) (nI p) x) (ks : 2 ≤ o → o < 6 → post 0) (k6 : (o = 6 ∨ o = 10) → wpX_probePut post (tY, pR, cH, cP, stl, cD, vd, eK, eD, eP, stt, oC, tk, sa, sb, gK, gA, gB, cl, nC, dd, dp, dl, dm, pt, cO, cA, cB, cC, cx, cu, st, pd, pp, pa, pf, pv, es, ew, qh, qc, qk, qv, ou, cm) (nI p) x) (k7 : o = 7 → wpX_probeGet post (tY, pR, cH, cP, stl, cD, vd, eK, eD, eP, stt, oC, tk, sa, sb, gK, gA, gB, cl, nC, dd, dp, dl, dm, pt, cO, cA, cB, cC, cx, cu, st, pd, pp, pa, pf, pv, es, ew, qh, qc, qk, qv, ou, cm) (nI p) x 1) (k8 : o = 8 → wpX_probeGive post (tY, pR, cH, cP, stl, cD, vd, eK, eD, eP, stt, oC, tk, sa, sb, gK, gA, gB, cl, nC, dd, dp, dl, dm, pt, cO, cA, cB, cC, cx, cu, st, pd, pp, pa, pf, pv, es, ew, qh, qc, qk, qv, ou, cm) (nI p) x y) (k9 : o = 9 → wpX_probeTake post (tY, pR, cH, cP, stl, cD, vd, eK, eD, eP, stt, oC, tk, sa, sb, gK, gA, gB, cl, nC, dd, dp, dl, dm, pt, cO, cA, cB, cC, cx, cu, st, pd, pp, pa, pf, pv, es, ew, qh, qc, qk, qv, ou, cm) (nI p) x y)
    (k11 : o = 11 → wpX_probeGet post (tY, pR, cH, cP, stl, cD, vd, eK, eD, eP, stt, oC, tk, sa, sb, gK, gA, gB, cl, nC, dd, dp, dl, dm, pt, cO, cA, cB, cC, cx, cu, st, pd, pp, pa, pf, pv, es, ew, qh, qc, qk, qv, ou, cm) (nI p) x 3) (k12 : o = 12 → wpX_probeClose post (tY, pR, cH, cP, stl, cD, vd, eK, eD, eP, stt, oC, tk, sa, sb, gK, gA, gB, cl, nC, dd, dp, dl, dm, pt, cO, cA, cB, cC, cx, cu, st, pd, pp, pa, pf, pv, es, ew, qh, qc, qk, qv, ou, cm) (nI p) x) (k13 : o = 13 → wpX_probeSpawn post (tY, pR, cH, cP, stl, cD, vd, eK, eD, eP, stt, oC, tk, sa, sb, gK, gA, gB, cl, nC, dd, dp, dl, dm, pt, cO, cA, cB, cC, cx, cu, st, pd, pp, pa, pf, pv, es, ew, qh, qc, qk, qv, ou, cm) (nI p) x y z) (k14 : o = 14 → wpX_probeOpen post (tY, pR, cH, cP, stl, cD, vd, eK, eD, eP, stt, oC, tk, sa, sb, gK, gA, gB, cl, nC, dd, dp, dl, dm, pt, cO, cA, cB, cC, cx, cu, st, pd, pp, pa, pf, pv, es, ew, qh, qc, qk, qv, ou, cm) (nI p) x y) : wpX_probe post (tY, pR, cH, cP, stl, cD, vd, eK, eD, eP, stt, oC, tk, sa, sb, gK, gA, gB, cl, nC, dd, dp, dl, dm, pt, cO, cA, cB, cC, cx, cu, st, pd, pp, pa, pf, pv, es, ew, qh, qc, qk, qv, ou, cm) (nI p) := by
  have i1 : vp_in (nI p) 6 := vp_in_nI hp (by decide)
  have i2 : vp_in (nI (d * 24 + i)) 144 := vp_in_nI (by omega) (by decide)
  have e2 : (nI (d * 24 + i)).toNatClampNeg = d * 24 + i := nI_clamp (by omega)
  have e3 : pd p * 24 + pp p = nI (d * 24 + i) := by rw [hpd, hpp, nu_m24, nI_add]
  unfold wpX_probe
  dsimp only
  rw [nI_clamp (show p < 2 ^ 31 by omega)]
  refine ⟨i1, i1, nm_r e3 ?_⟩
  rw [e2, h0, h1, h2, h3]
  refine ⟨i2, nm_e ⟨i2, nm_e ⟨i2, nm_e (br_f (nI_pos (by omega)) (br_f (nI_nlt (a := 14) (by omega) (by omega)) ?_))⟩⟩⟩
  refine pk_eq o 0 k0 (fun _ => pk_eq o 1 k1 (fun _ => pk_eq o 2 (fun q => ks (by omega) (by omega)) (fun _ => pk_eq o 3 (fun q => ks (by omega) (by omega)) (fun _ => pk_eq o 4 (fun q => ks (by omega) (by omega)) (fun _ => pk_eq o 5 (fun q => ks (by omega) (by omega)) (fun _ => pk_eq o 6 (fun q => k6 (Or.inl q)) (fun _ => pk_eq o 7 k7 (fun _ => pk_eq o 8 k8 (fun _ => pk_eq o 9 k9 (fun _ => pk_eq o 10 (fun q => k6 (Or.inr q)) (fun _ => pk_eq o 11 k11 (fun _ => pk_eq o 12 k12 (fun _ => pk_eq o 13 (fun q => ⟨i2, k13 q⟩) (fun _ => pk_eq o 14 k14 (fun _ => trivial)))))))))))))))
/-- X's answer r and Y's answer y say the same -/
def rl (o : Nat) (r y : Int32) : Prop := (r = 0 ∧ y = (if o = 0 then 2 else 1)) ∨ (∃ f, 1 ≤ f ∧ f ≤ 8 ∧ r = nI f ∧ y = -nI f) ∨ (r = -4 ∧ y = 4) ∨ (r = -5 ∧ y = 5)
theorem rl_f {o : Nat} (f : Nat) (h1 : 1 ≤ f) (h8 : f ≤ 8) : rl o (nI f) (-nI f) := Or.inr (Or.inl ⟨f, h1, h8, rfl, rfl⟩)
/-- what a step that goes through finds -/
def pcn (P C Q : Nat) (L : List MG) (dd dp st hel es : Nat → Int32) (p o : Nat) (x y z : Int32) : Prop :=
  (o = 0 → ∀ v, v < 6 → hel (p * 6 + v) = -1) ∧ (o = 1 → ∃ d, d < 6 ∧ x = nI d ∧ ¬ dd d = 0 ∧ dp d = nI (bm_c (jm (bv hel p)) 6)) ∧
  ((o = 6 ∨ o = 10) → ∃ a e, a < 6 ∧ x = nI a ∧ e < 2 * C ∧ hel (p * 6 + a) = nI e ∧ (es (pr e) = 1 ∨ es (pr e) = 2) ∧ (ms_q (pr e) L).length < Q) ∧
  ((o = 7 ∨ o = 11) → ∃ a e m S, a < 6 ∧ x = nI a ∧ e < 2 * C ∧ hel (p * 6 + a) = nI e ∧ ms_q e L = m :: S ∧ m.2.1 = (if o = 7 then 1 else 3)) ∧
  (o = 8 → ∃ a b e f, a < 6 ∧ b < 6 ∧ x = nI a ∧ y = nI b ∧ ¬ a = b ∧ e < 2 * C ∧ f < 2 * C ∧ hel (p * 6 + a) = nI e ∧ hel (p * 6 + b) = nI f ∧ (es (pr e) = 1 ∨ es (pr e) = 2) ∧ (ms_q (pr e) L).length < Q) ∧
  (o = 9 → ∃ a b e m S, a < 6 ∧ b < 6 ∧ x = nI a ∧ y = nI b ∧ hel (p * 6 + b) = -1 ∧ e < 2 * C ∧ hel (p * 6 + a) = nI e ∧ ms_q e L = m :: S ∧ m.2.1 = 2) ∧
  (o = 12 → ∃ a e, a < 6 ∧ x = nI a ∧ e < 2 * C ∧ hel (p * 6 + a) = nI e ∧ ms_q e L = []) ∧
  (o = 13 → ∃ a b m q c, a < 6 ∧ b < 6 ∧ m < 64 ∧ x = nI a ∧ y = nI b ∧ z = nI m ∧ hel (p * 6 + a) = -1 ∧ nI m &&& nI (jm (bv hel p)) = nI m ∧ ¬ dd b = 0 ∧ dp b = nI (1 + bm_c m 6) ∧ q < P ∧ st q = 0 ∧ (∀ j, j < q → ¬ st j = 0) ∧ c < C ∧ es (2 * c) = 0 ∧ (∀ j, j < c → ¬ es (2 * j) = 0)) ∧
  (o = 14 → ∃ a b c, a < 6 ∧ b < 6 ∧ x = nI a ∧ y = nI b ∧ ¬ a = b ∧ hel (p * 6 + a) = -1 ∧ hel (p * 6 + b) = -1 ∧ c < C ∧ es (2 * c) = 0 ∧ (∀ j, j < c → ¬ es (2 * j) = 0))
/-- one outcome for both -/
def pout (PX PY : (Int32 → Prop) → Prop) (o : Nat) (G : Prop) : Prop := ∃ r y : Int32, (∀ post : Int32 → Prop, post r → PX post) ∧ (∀ post : Int32 → Prop, post y → PY post) ∧ rl o r y ∧ (r = 0 → G)
theorem po_f {PX PY : (Int32 → Prop) → Prop} {o : Nat} {G : Prop} (f : Nat) (h1 : 1 ≤ f) (h8 : f ≤ 8) (hx : ∀ post : Int32 → Prop, post (nI f) → PX post) (hy : ∀ post : Int32 → Prop, post (-nI f) → PY post) : pout PX PY o G :=
  ⟨nI f, -nI f, hx, hy, rl_f f h1 h8, fun q => absurd q (nI_ne0 (by omega) (by omega))⟩
theorem po_0 {PX PY : (Int32 → Prop) → Prop} {o : Nat} {G : Prop} (ho : ¬ o = 0) (g : G) (hx : ∀ post : Int32 → Prop, post 0 → PX post) (hy : ∀ post : Int32 → Prop, post 1 → PY post) : pout PX PY o G :=
  ⟨0, 1, hx, hy, Or.inl ⟨rfl, (if_neg ho).symm⟩, fun _ => g⟩
theorem po_4 {PX PY : (Int32 → Prop) → Prop} {o : Nat} {G : Prop} (hx : ∀ post : Int32 → Prop, post (-4) → PX post) (hy : ∀ post : Int32 → Prop, post 4 → PY post) : pout PX PY o G :=
  ⟨-4, 4, hx, hy, Or.inr (Or.inr (Or.inl ⟨rfl, rfl⟩)), fun q => absurd q (by decide)⟩
theorem po_5 {PX PY : (Int32 → Prop) → Prop} {o : Nat} {G : Prop} (hx : ∀ post : Int32 → Prop, post (-5) → PX post) (hy : ∀ post : Int32 → Prop, post 5 → PY post) : pout PX PY o G :=
  ⟨-5, 5, hx, hy, Or.inr (Or.inr (Or.inr ⟨rfl, rfl⟩)), fun q => absurd q (by decide)⟩
theorem nlt_e {e : Nat} (h : e < 16) : ¬ nI e < 0 := nI_pos (by omega)
theorem al3 {x : Int32} (h : x = 1 ∨ x = 2) : ¬ x = 3 := fun q => by rw [q] at h; rcases h with h | h <;> exact absurd h (by decide)
/-- Y's way to the channel's tests, for instructions other than spawn and open -/
theorem wy_way {post : Int32 → Prop} {p a o : Nat} {y z x5 x6 : Int32} (hp : p < 6) (ha : a < 6) (h6 : 6 ≤ o) (h12 : o ≤ 12) (hy : (o = 8 ∨ o = 9) → ∃ b, b < 6 ∧ y = nI b)
    (k3 : o = 8 → nI a = y → post (-3)) (k1 : (o = 8 → ¬ nI a = y) → (hel (p * 6 + a) < 0 ∨ (o = 8 ∧ ∀ b, b < 6 → y = nI b → hel (p * 6 + b) < 0)) → post (-1)) (k2 : ¬ hel (p * 6 + a) < 0 → o = 9 → (∀ b, b < 6 → y = nI b → ¬ hel (p * 6 + b) < 0) → post (-2))
    (k : (o = 8 → ¬ nI a = y) → ¬ hel (p * 6 + a) < 0 → (o = 8 → ∀ b, b < 6 → y = nI b → ¬ hel (p * 6 + b) < 0) → (o = 9 → ∀ b, b < 6 → y = nI b → hel (p * 6 + b) < 0) → wY_look_309 post x5 1 (nI o) y z (hel (p * 6 + a)) tY pR cH cP cD vd eK eD eP stt mC oC tk sa sb eq du nx dd dp dl dm pt cd ct st yd yp ya yf hel mT mK mV ou eu ev) (n : Nat) :
    wY_look_68 post (nI (p * 6)) 1 (nI o) (nI a) y z tY pR cH cP cD vd eK eD eP stt mC oC tk sa sb eq du nx dd dp dl dm pt cd ct st yd yp ya yf hel mT mK mV ou eu ev (n + 1) x5 x6 (nI 6) := by
  refine wy_l6 hp ha h6 (by omega) (fun x14 x15 e14 e15 e15' => ?_) (fun q => hy (by omega)) n
  rw [if_neg (show ¬ (o = 13 ∨ o = 14) by omega)]
  subst e14
  refine wy_l226 (by omega) (by omega) (by omega) k3 (fun q1 q2 => k1 q1 ?_) (fun q1 q2 q3 => k2 q1 q2 (fun b b1 b2 => ?_)) (fun q1 q2 q3 q4 => k q1 q2 (fun w b b1 b2 => ?_) (fun w b b1 b2 => ?_))
  · rcases q2 with q2 | ⟨w, q2⟩
    · exact Or.inl q2
    · exact Or.inr ⟨w, fun b b1 b2 => by rw [← e15 (by omega) b b1 b2]; exact q2⟩
  · rw [← e15 (by omega) b b1 b2]; exact q3
  · rw [← e15 (by omega) b b1 b2]; exact q3 w
  · rw [← e15 (by omega) b b1 b2]; exact q4 w
theorem wb_put {p a o : Nat} {y z x5 x6 : Int32} (h : zc P C Q L pv hel es ew qh qc qk qv mT mK mV) (hS : zs P C Q O) (hp : p < P) (ha : a < 6) (ho : o = 6 ∨ o = 10) :
    pout (fun post => wpX_probePut post (nI T, nI P, nI C, nI Q, stl, cD, vd, eK, eD, eP, stt, nI O, tk, sa, sb, gK, gA, gB, cl, nC, dd, dp, dl, dm, pt, cO, cA, cB, cC, cx, cu, st, pd, pp, pa, pf, pv, es, ew, qh, qc, qk, qv, ou, cm) (nI p) (nI a)) (fun post => ∀ n, wY_look_68 post (nI (p * 6)) 1 (nI o) (nI a) y z (nI T) (nI P) (nI C) (nI Q) cD vd eK eD eP stt (nI L.length) (nI O) tk sa sb eq du nx dd dp dl dm pt cd ct st yd yp ya yf hel mT mK mV ou eu ev (n + 1) x5 x6 (nI 6)) o (∃ e, e < 2 * C ∧ hel (p * 6 + a) = nI e ∧ (es (pr e) = 1 ∨ es (pr e) = 2) ∧ (ms_q (pr e) L).length < Q) := by
  obtain ⟨s1, s2, s3, s4, s5, s6, s7⟩ := hS
  have E16 := h.1.1.1
  have way : ∀ post : Int32 → Prop, (hel (p * 6 + a) < 0 → post (-1)) → (¬ hel (p * 6 + a) < 0 → wY_look_309 post x5 1 (nI o) y z (hel (p * 6 + a)) (nI T) (nI P) (nI C) (nI Q) cD vd eK eD eP stt (nI L.length) (nI O) tk sa sb eq du nx dd dp dl dm pt cd ct st yd yp ya yf hel mT mK mV ou eu ev) → ∀ n, wY_look_68 post (nI (p * 6)) 1 (nI o) (nI a) y z (nI T) (nI P) (nI C) (nI Q) cD vd eK eD eP stt (nI L.length) (nI O) tk sa sb eq du nx dd dp dl dm pt cd ct st yd yp ya yf hel mT mK mV ou eu ev (n + 1) x5 x6 (nI 6) := fun post k1 k n =>
    wy_way (by omega) ha (by omega) (by omega) (fun q => by omega) (fun q => by omega) (fun _ q => k1 (q.resolve_right (fun w => by omega))) (fun _ q => by omega) (fun _ q _ _ => k q) n
  rcases re_hd h.1 (i := p * 6 + a) (by omega) with zz | ⟨e, e1, e2⟩
  · refine po_f 1 (by omega) (by omega) (fun post k => ?_) (fun post k => way post (fun _ => k) (fun q => absurd nu_m1lt (by rw [zz] at q; exact q)))
    exact wx_probePut h s2 s6 hp ha (fun _ => k) (fun e _ q => absurd (zz.symm.trans q) (re_n1 (by omega))) (fun e _ q => absurd (zz.symm.trans q) (re_n1 (by omega))) (fun e _ q => absurd (zz.symm.trans q) (re_n1 (by omega)))
  · have sa1 := (re_of_hd h.1 (by omega) e2 (by omega)).2.1
    have ne : ¬ hel (p * 6 + a) = -1 := fun q => absurd (q.symm.trans e2) (re_n1 (by omega))
    have un : ∀ e', e' < 2 * C → hel (p * 6 + a) = nI e' → e' = e := fun e' h1 h2 => re_inj (by omega) (by omega) (h2.symm.trans e2)
    have way2 : ∀ post : Int32 → Prop, wY_look_309 post x5 1 (nI o) y z (nI e) (nI T) (nI P) (nI C) (nI Q) cD vd eK eD eP stt (nI L.length) (nI O) tk sa sb eq du nx dd dp dl dm pt cd ct st yd yp ya yf hel mT mK mV ou eu ev → ∀ n, wY_look_68 post (nI (p * 6)) 1 (nI o) (nI a) y z (nI T) (nI P) (nI C) (nI Q) cD vd eK eD eP stt (nI L.length) (nI O) tk sa sb eq du nx dd dp dl dm pt cd ct st yd yp ya yf hel mT mK mV ou eu ev (n + 1) x5 x6 (nI 6) := fun post k => way post (fun q => absurd q (by rw [e2]; exact nlt_e (by omega))) (fun _ => by rw [e2]; exact k)
    by_cases g3 : es (pr e) = 3
    · refine po_f 6 (by omega) (by omega) (fun post k => ?_) (fun post k => way2 post (wy_l309p h s6 (by omega) e1 sa1 (fun _ => k) (fun w => absurd g3 (al3 w)) (fun w => absurd g3 (al3 w))))
      exact wx_probePut h s2 s6 hp ha (fun q => absurd q ne) (fun _ _ _ _ => k) (fun e' a1 a2 a3 => absurd g3 (al3 (un e' a1 a2 ▸ a3))) (fun e' a1 a2 a3 => absurd g3 (al3 (un e' a1 a2 ▸ a3)))
    · have al : es (pr e) = 1 ∨ es (pr e) = 2 := by
        rcases re_peer h.1 e1 (Or.inl sa1) with g | g | g
        · exact Or.inl g
        · exact Or.inr g
        · exact absurd g g3
      by_cases l : (ms_q (pr e) L).length < Q
      · refine po_0 (by omega) ⟨e, e1, e2, al, l⟩ (fun post k => ?_) (fun post k => way2 post (wy_l309p h s6 (by omega) e1 sa1 (fun w => absurd w g3) (fun _ _ => k) (fun _ w => absurd l w)))
        exact wx_probePut h s2 s6 hp ha (fun q => absurd q ne) (fun e' a1 a2 a3 => absurd (un e' a1 a2 ▸ a3) g3) (fun _ _ _ _ _ => k) (fun e' a1 a2 a3 a4 => absurd l (un e' a1 a2 ▸ a4))
      · refine po_4 (fun post k => ?_) (fun post k => way2 post (wy_l309p h s6 (by omega) e1 sa1 (fun w => absurd w g3) (fun _ w => absurd w l) (fun _ _ => k)))
        exact wx_probePut h s2 s6 hp ha (fun q => absurd q ne) (fun e' a1 a2 a3 => absurd (un e' a1 a2 ▸ a3) g3) (fun e' a1 a2 a3 a4 => absurd (un e' a1 a2 ▸ a4) l) (fun _ _ _ _ _ => k)
theorem wb_get {p a o kd : Nat} {y z x5 x6 : Int32} (h : zc P C Q L pv hel es ew qh qc qk qv mT mK mV) (hS : zs P C Q O) (hp : p < P) (ha : a < 6) (ho : (o = 7 ∧ kd = 1) ∨ (o = 11 ∧ kd = 3)) :
    pout (fun post => wpX_probeGet post (nI T, nI P, nI C, nI Q, stl, cD, vd, eK, eD, eP, stt, nI O, tk, sa, sb, gK, gA, gB, cl, nC, dd, dp, dl, dm, pt, cO, cA, cB, cC, cx, cu, st, pd, pp, pa, pf, pv, es, ew, qh, qc, qk, qv, ou, cm) (nI p) (nI a) (nI kd)) (fun post => ∀ n, wY_look_68 post (nI (p * 6)) 1 (nI o) (nI a) y z (nI T) (nI P) (nI C) (nI Q) cD vd eK eD eP stt (nI L.length) (nI O) tk sa sb eq du nx dd dp dl dm pt cd ct st yd yp ya yf hel mT mK mV ou eu ev (n + 1) x5 x6 (nI 6)) o (∃ e m S, e < 2 * C ∧ hel (p * 6 + a) = nI e ∧ ms_q e L = m :: S ∧ m.2.1 = nI kd) := by
  obtain ⟨s1, s2, s3, s4, s5, s6, s7⟩ := hS
  have E16 := h.1.1.1
  have ho2 : (o = 7 ∧ kd = 1) ∨ (o = 9 ∧ kd = 2) ∨ (o = 11 ∧ kd = 3) := by omega
  have way : ∀ post : Int32 → Prop, (hel (p * 6 + a) < 0 → post (-1)) → (¬ hel (p * 6 + a) < 0 → wY_look_309 post x5 1 (nI o) y z (hel (p * 6 + a)) (nI T) (nI P) (nI C) (nI Q) cD vd eK eD eP stt (nI L.length) (nI O) tk sa sb eq du nx dd dp dl dm pt cd ct st yd yp ya yf hel mT mK mV ou eu ev) → ∀ n, wY_look_68 post (nI (p * 6)) 1 (nI o) (nI a) y z (nI T) (nI P) (nI C) (nI Q) cD vd eK eD eP stt (nI L.length) (nI O) tk sa sb eq du nx dd dp dl dm pt cd ct st yd yp ya yf hel mT mK mV ou eu ev (n + 1) x5 x6 (nI 6) := fun post k1 k n =>
    wy_way (by omega) ha (by omega) (by omega) (fun q => by omega) (fun q => by omega) (fun _ q => k1 (q.resolve_right (fun w => by omega))) (fun _ q => by omega) (fun _ q _ _ => k q) n
  rcases re_hd h.1 (i := p * 6 + a) (by omega) with zz | ⟨e, e1, e2⟩
  · have no : ∀ e', hel (p * 6 + a) = nI e' → e' < 2 * C → False := fun e' q _ => absurd (zz.symm.trans q) (re_n1 (by omega))
    refine po_f 1 (by omega) (by omega) (fun post k => ?_) (fun post k => way post (fun _ => k) (fun q => absurd nu_m1lt (by rw [zz] at q; exact q)))
    exact wx_probeGet h s2 s6 hp ha (fun _ => k) (fun e a1 q => (no e q a1).elim) (fun e a1 q => (no e q a1).elim) (fun e _ _ a1 q => (no e q a1).elim) (fun e _ _ a1 q => (no e q a1).elim)
  · have sa1 := (re_of_hd h.1 (by omega) e2 (by omega)).2.1
    have ne : ¬ hel (p * 6 + a) = -1 := fun q => absurd (q.symm.trans e2) (re_n1 (by omega))
    have un : ∀ e', e' < 2 * C → hel (p * 6 + a) = nI e' → e' = e := fun e' h1 h2 => re_inj (by omega) (by omega) (h2.symm.trans e2)
    have way2 : ∀ post : Int32 → Prop, wY_look_309 post x5 1 (nI o) y z (nI e) (nI T) (nI P) (nI C) (nI Q) cD vd eK eD eP stt (nI L.length) (nI O) tk sa sb eq du nx dd dp dl dm pt cd ct st yd yp ya yf hel mT mK mV ou eu ev → ∀ n, wY_look_68 post (nI (p * 6)) 1 (nI o) (nI a) y z (nI T) (nI P) (nI C) (nI Q) cD vd eK eD eP stt (nI L.length) (nI O) tk sa sb eq du nx dd dp dl dm pt cd ct st yd yp ya yf hel mT mK mV ou eu ev (n + 1) x5 x6 (nI 6) := fun post k => way post (fun q => absurd q (by rw [e2]; exact nlt_e (by omega))) (fun _ => by rw [e2]; exact k)
    cases hl : ms_q e L with
    | nil =>
      by_cases g3 : es (pr e) = 3
      · refine po_f 6 (by omega) (by omega) (fun post k => ?_) (fun post k => way2 post (wy_l309g h s6 ho2 e1 sa1 (fun _ _ => k) (fun _ w => absurd g3 (al3 w)) (fun m S w => by rw [hl] at w; cases w) (fun m S w => by rw [hl] at w; cases w)))
        exact wx_probeGet h s2 s6 hp ha (fun q => absurd q ne) (fun _ _ _ _ _ => k) (fun e' a1 a2 _ a3 => absurd g3 (al3 (un e' a1 a2 ▸ a3))) (fun e' m S a1 a2 w => by rw [un e' a1 a2, hl] at w; cases w) (fun e' m S a1 a2 w => by rw [un e' a1 a2, hl] at w; cases w)
      · have al : es (pr e) = 1 ∨ es (pr e) = 2 := by
          rcases re_peer h.1 e1 (Or.inl sa1) with g | g | g
          · exact Or.inl g
          · exact Or.inr g
          · exact absurd g g3
        refine po_4 (fun post k => ?_) (fun post k => way2 post (wy_l309g h s6 ho2 e1 sa1 (fun _ w => absurd w g3) (fun _ _ => k) (fun m S w => by rw [hl] at w; cases w) (fun m S w => by rw [hl] at w; cases w)))
        exact wx_probeGet h s2 s6 hp ha (fun q => absurd q ne) (fun e' a1 a2 _ a3 => absurd (un e' a1 a2 ▸ a3) g3) (fun _ _ _ _ _ => k) (fun e' m S a1 a2 w => by rw [un e' a1 a2, hl] at w; cases w) (fun e' m S a1 a2 w => by rw [un e' a1 a2, hl] at w; cases w)
    | cons m S =>
      have um : ∀ e' m' S', e' < 2 * C → hel (p * 6 + a) = nI e' → ms_q e' L = m' :: S' → m' = m := fun e' m' S' a1 a2 w => by rw [un e' a1 a2, hl] at w; exact (List.cons.inj w).1.symm
      have nn : ∀ e', e' < 2 * C → hel (p * 6 + a) = nI e' → ¬ ms_q e' L = [] := fun e' a1 a2 w => by rw [un e' a1 a2, hl] at w; cases w
      by_cases hk : m.2.1 = nI kd
      · refine po_0 (by omega) ⟨e, m, S, e1, e2, hl, hk⟩ (fun post k => ?_) (fun post k => way2 post (wy_l309g h s6 ho2 e1 sa1 (fun w => absurd w (nn e e1 e2)) (fun w => absurd w (nn e e1 e2)) (fun _ _ _ _ => k) (fun m' S' w q => absurd hk (um e m' S' e1 e2 w ▸ q))))
        exact wx_probeGet h s2 s6 hp ha (fun q => absurd q ne) (fun e' a1 a2 w => absurd w (nn e' a1 a2)) (fun e' a1 a2 w => absurd w (nn e' a1 a2)) (fun _ _ _ _ _ _ _ => k) (fun e' m' S' a1 a2 w q => absurd hk (um e' m' S' a1 a2 w ▸ q))
      · refine po_f 5 (by omega) (by omega) (fun post k => ?_) (fun post k => way2 post (wy_l309g h s6 ho2 e1 sa1 (fun w => absurd w (nn e e1 e2)) (fun w => absurd w (nn e e1 e2)) (fun m' S' w q => absurd (um e m' S' e1 e2 w ▸ q) hk) (fun _ _ _ _ => k)))
        exact wx_probeGet h s2 s6 hp ha (fun q => absurd q ne) (fun e' a1 a2 w => absurd w (nn e' a1 a2)) (fun e' a1 a2 w => absurd w (nn e' a1 a2)) (fun e' m' S' a1 a2 w q => absurd (um e' m' S' a1 a2 w ▸ q) hk) (fun _ _ _ _ _ _ _ => k)
theorem hel_lt (R : re_R (2 * C) hel L es ew) {i : Nat} (hi : i < 36) : hel i < 0 ↔ hel i = -1 := by
  have E16 := R.1.1
  constructor
  · intro q
    rcases re_hd R hi with z | ⟨e, e1, e2⟩
    · exact z
    · rw [e2] at q; exact absurd q (nlt_e (by omega))
  · intro q; rw [q]; exact nu_m1lt
theorem wb_give {p a b : Nat} {z x5 x6 : Int32} (h : zc P C Q L pv hel es ew qh qc qk qv mT mK mV) (hS : zs P C Q O) (hp : p < P) (ha : a < 6) (hb : b < 6) :
    pout (fun post => wpX_probeGive post (nI T, nI P, nI C, nI Q, stl, cD, vd, eK, eD, eP, stt, nI O, tk, sa, sb, gK, gA, gB, cl, nC, dd, dp, dl, dm, pt, cO, cA, cB, cC, cx, cu, st, pd, pp, pa, pf, pv, es, ew, qh, qc, qk, qv, ou, cm) (nI p) (nI a) (nI b)) (fun post => ∀ n, wY_look_68 post (nI (p * 6)) 1 (nI 8) (nI a) (nI b) z (nI T) (nI P) (nI C) (nI Q) cD vd eK eD eP stt (nI L.length) (nI O) tk sa sb eq du nx dd dp dl dm pt cd ct st yd yp ya yf hel mT mK mV ou eu ev (n + 1) x5 x6 (nI 6)) 8 (∃ e f, ¬ a = b ∧ e < 2 * C ∧ f < 2 * C ∧ hel (p * 6 + a) = nI e ∧ hel (p * 6 + b) = nI f ∧ (es (pr e) = 1 ∨ es (pr e) = 2) ∧ (ms_q (pr e) L).length < Q) := by
  obtain ⟨s1, s2, s3, s4, s5, s6, s7⟩ := hS
  have E16 := h.1.1.1
  have ib : ∀ b', b' < 6 → nI b = nI b' → b = b' := fun b' h1 h2 => (nI_eq (by omega) (by omega)).mp h2
  have way : ∀ post : Int32 → Prop, (a = b → post (-3)) → (¬ a = b → (hel (p * 6 + a) < 0 ∨ hel (p * 6 + b) < 0) → post (-1)) → (¬ a = b → ¬ hel (p * 6 + a) < 0 → ¬ hel (p * 6 + b) < 0 → wY_look_309 post x5 1 (nI 8) (nI b) z (hel (p * 6 + a)) (nI T) (nI P) (nI C) (nI Q) cD vd eK eD eP stt (nI L.length) (nI O) tk sa sb eq du nx dd dp dl dm pt cd ct st yd yp ya yf hel mT mK mV ou eu ev) → ∀ n, wY_look_68 post (nI (p * 6)) 1 (nI 8) (nI a) (nI b) z (nI T) (nI P) (nI C) (nI Q) cD vd eK eD eP stt (nI L.length) (nI O) tk sa sb eq du nx dd dp dl dm pt cd ct st yd yp ya yf hel mT mK mV ou eu ev (n + 1) x5 x6 (nI 6) := fun post k3 k1 k n =>
    wy_way (by omega) ha (by omega) (by omega) (fun _ => ⟨b, hb, rfl⟩) (fun _ q => k3 ((nI_eq (by omega) (by omega)).mp q)) (fun q w => k1 (fun e => q rfl (by rw [e])) (w.imp id (fun w => w.2 b hb rfl))) (fun _ q => by omega) (fun q1 q2 q3 _ => k (fun e => q1 rfl (by rw [e])) q2 (q3 rfl b hb rfl)) n
  by_cases hab : a = b
  · refine po_f 3 (by omega) (by omega) (fun post k => ?_) (fun post k => way post (fun _ => k) (fun q => absurd hab q) (fun q => absurd hab q))
    exact wx_probeGive h s2 s6 hp ha hb (fun _ => k) (fun q => absurd hab q) (fun _ _ q => absurd hab q) (fun _ _ q => absurd hab q) (fun _ _ q => absurd hab q)
  · rcases re_hd h.1 (i := p * 6 + a) (by omega) with zz | ⟨e, e1, e2⟩
    · have no : ∀ e', e' < 2 * C → hel (p * 6 + a) = nI e' → False := fun e' _ q => absurd (zz.symm.trans q) (re_n1 (by omega))
      refine po_f 1 (by omega) (by omega) (fun post k => ?_) (fun post k => way post (fun q => absurd q hab) (fun _ _ => k) (fun _ q => absurd nu_m1lt (by rw [zz] at q; exact q)))
      exact wx_probeGive h s2 s6 hp ha hb (fun q => absurd q hab) (fun _ _ => k) (fun e _ _ a1 _ q => (no e a1 q).elim) (fun e _ _ a1 _ q => (no e a1 q).elim) (fun e _ _ a1 _ q => (no e a1 q).elim)
    · rcases re_hd h.1 (i := p * 6 + b) (by omega) with zz | ⟨f, f1, f2⟩
      · have no : ∀ e', e' < 2 * C → hel (p * 6 + b) = nI e' → False := fun e' _ q => absurd (zz.symm.trans q) (re_n1 (by omega))
        refine po_f 1 (by omega) (by omega) (fun post k => ?_) (fun post k => way post (fun q => absurd q hab) (fun _ _ => k) (fun _ _ q => absurd nu_m1lt (by rw [zz] at q; exact q)))
        exact wx_probeGive h s2 s6 hp ha hb (fun q => absurd q hab) (fun _ _ => k) (fun _ f _ _ a1 _ q => (no f a1 q).elim) (fun _ f _ _ a1 _ q => (no f a1 q).elim) (fun _ f _ _ a1 _ q => (no f a1 q).elim)
      · have sa1 := (re_of_hd h.1 (by omega) e2 (by omega)).2.1
        have nea : ¬ hel (p * 6 + a) = -1 := fun q => absurd (q.symm.trans e2) (re_n1 (by omega))
        have neb : ¬ hel (p * 6 + b) = -1 := fun q => absurd (q.symm.trans f2) (re_n1 (by omega))
        have un : ∀ e', e' < 2 * C → hel (p * 6 + a) = nI e' → e' = e := fun e' h1 h2 => re_inj (by omega) (by omega) (h2.symm.trans e2)
        have x1 : ∀ (post : Int32 → Prop), (¬ a = b → (hel (p * 6 + a) = -1 ∨ hel (p * 6 + b) = -1) → post 1) := fun post _ q => by
          rcases q with q | q
          · exact absurd q nea
          · exact absurd q neb
        have way2 : ∀ post : Int32 → Prop, wY_look_309 post x5 1 (nI 8) (nI b) z (nI e) (nI T) (nI P) (nI C) (nI Q) cD vd eK eD eP stt (nI L.length) (nI O) tk sa sb eq du nx dd dp dl dm pt cd ct st yd yp ya yf hel mT mK mV ou eu ev → ∀ n, wY_look_68 post (nI (p * 6)) 1 (nI 8) (nI a) (nI b) z (nI T) (nI P) (nI C) (nI Q) cD vd eK eD eP stt (nI L.length) (nI O) tk sa sb eq du nx dd dp dl dm pt cd ct st yd yp ya yf hel mT mK mV ou eu ev (n + 1) x5 x6 (nI 6) := fun post k => way post (fun q => absurd q hab) (fun _ q => by
          rcases q with q | q
          · exact absurd q (by rw [e2]; exact nlt_e (by omega))
          · exact absurd q (by rw [f2]; exact nlt_e (by omega))) (fun _ _ _ => by rw [e2]; exact k)
        by_cases g3 : es (pr e) = 3
        · refine po_f 6 (by omega) (by omega) (fun post k => ?_) (fun post k => way2 post (wy_l309p h s6 (by omega) e1 sa1 (fun _ => k) (fun w => absurd g3 (al3 w)) (fun w => absurd g3 (al3 w))))
          exact wx_probeGive h s2 s6 hp ha hb (fun q => absurd q hab) (x1 post) (fun _ _ _ _ _ _ _ _ => k) (fun e' _ _ a1 _ a2 _ a3 => absurd g3 (al3 (un e' a1 a2 ▸ a3))) (fun e' _ _ a1 _ a2 _ a3 => absurd g3 (al3 (un e' a1 a2 ▸ a3)))
        · have al : es (pr e) = 1 ∨ es (pr e) = 2 := by
            rcases re_peer h.1 e1 (Or.inl sa1) with g | g | g
            · exact Or.inl g
            · exact Or.inr g
            · exact absurd g g3
          by_cases l : (ms_q (pr e) L).length < Q
          · refine po_0 (by omega) ⟨e, f, hab, e1, f1, e2, f2, al, l⟩ (fun post k => ?_) (fun post k => way2 post (wy_l309p h s6 (by omega) e1 sa1 (fun w => absurd w g3) (fun _ _ => k) (fun _ w => absurd l w)))
            exact wx_probeGive h s2 s6 hp ha hb (fun q => absurd q hab) (x1 post) (fun e' _ _ a1 _ a2 _ a3 => absurd (un e' a1 a2 ▸ a3) g3) (fun _ _ _ _ _ _ _ _ _ => k) (fun e' _ _ a1 _ a2 _ a3 a4 => absurd l (un e' a1 a2 ▸ a4))
          · refine po_4 (fun post k => ?_) (fun post k => way2 post (wy_l309p h s6 (by omega) e1 sa1 (fun w => absurd w g3) (fun _ w => absurd w l) (fun _ _ => k)))
            exact wx_probeGive h s2 s6 hp ha hb (fun q => absurd q hab) (x1 post) (fun e' _ _ a1 _ a2 _ a3 => absurd (un e' a1 a2 ▸ a3) g3) (fun e' _ _ a1 _ a2 _ a3 a4 => absurd (un e' a1 a2 ▸ a4) l) (fun _ _ _ _ _ _ _ _ _ => k)
theorem wb_take {p a b : Nat} {z x5 x6 : Int32} (h : zc P C Q L pv hel es ew qh qc qk qv mT mK mV) (hS : zs P C Q O) (hp : p < P) (ha : a < 6) (hb : b < 6) :
    pout (fun post => wpX_probeTake post (nI T, nI P, nI C, nI Q, stl, cD, vd, eK, eD, eP, stt, nI O, tk, sa, sb, gK, gA, gB, cl, nC, dd, dp, dl, dm, pt, cO, cA, cB, cC, cx, cu, st, pd, pp, pa, pf, pv, es, ew, qh, qc, qk, qv, ou, cm) (nI p) (nI a) (nI b)) (fun post => ∀ n, wY_look_68 post (nI (p * 6)) 1 (nI 9) (nI a) (nI b) z (nI T) (nI P) (nI C) (nI Q) cD vd eK eD eP stt (nI L.length) (nI O) tk sa sb eq du nx dd dp dl dm pt cd ct st yd yp ya yf hel mT mK mV ou eu ev (n + 1) x5 x6 (nI 6)) 9 (∃ e m S, hel (p * 6 + b) = -1 ∧ e < 2 * C ∧ hel (p * 6 + a) = nI e ∧ ms_q e L = m :: S ∧ m.2.1 = 2) := by
  obtain ⟨s1, s2, s3, s4, s5, s6, s7⟩ := hS
  have E16 := h.1.1.1
  have way : ∀ post : Int32 → Prop, (hel (p * 6 + a) < 0 → post (-1)) → (¬ hel (p * 6 + a) < 0 → ¬ hel (p * 6 + b) < 0 → post (-2)) → (¬ hel (p * 6 + a) < 0 → hel (p * 6 + b) < 0 → wY_look_309 post x5 1 (nI 9) (nI b) z (hel (p * 6 + a)) (nI T) (nI P) (nI C) (nI Q) cD vd eK eD eP stt (nI L.length) (nI O) tk sa sb eq du nx dd dp dl dm pt cd ct st yd yp ya yf hel mT mK mV ou eu ev) → ∀ n, wY_look_68 post (nI (p * 6)) 1 (nI 9) (nI a) (nI b) z (nI T) (nI P) (nI C) (nI Q) cD vd eK eD eP stt (nI L.length) (nI O) tk sa sb eq du nx dd dp dl dm pt cd ct st yd yp ya yf hel mT mK mV ou eu ev (n + 1) x5 x6 (nI 6) := fun post k1 k2 k n =>
    wy_way (by omega) ha (by omega) (by omega) (fun _ => ⟨b, hb, rfl⟩) (fun q => by omega) (fun _ q => k1 (q.resolve_right (fun w => by omega))) (fun q1 _ q3 => k2 q1 (q3 b hb rfl)) (fun _ q2 _ q4 => k q2 (q4 rfl b hb rfl)) n
  have la := hel_lt h.1 (i := p * 6 + a) (by omega)
  have lb := hel_lt h.1 (i := p * 6 + b) (by omega)
  rcases re_hd h.1 (i := p * 6 + a) (by omega) with zz | ⟨e, e1, e2⟩
  · have no : ∀ e', e' < 2 * C → hel (p * 6 + a) = nI e' → False := fun e' _ q => absurd (zz.symm.trans q) (re_n1 (by omega))
    refine po_f 1 (by omega) (by omega) (fun post k => ?_) (fun post k => way post (fun _ => k) (fun q => absurd (la.mpr zz) q) (fun q => absurd (la.mpr zz) q))
    exact wx_probeTake h s2 s6 hp ha hb (fun _ => k) (fun q => absurd zz q) (fun e _ a1 q => (no e a1 q).elim) (fun e _ a1 q => (no e a1 q).elim) (fun e _ _ _ a1 q => (no e a1 q).elim) (fun e _ _ _ a1 q => (no e a1 q).elim)
  · have sa1 := (re_of_hd h.1 (by omega) e2 (by omega)).2.1
    have ne : ¬ hel (p * 6 + a) = -1 := fun q => absurd (q.symm.trans e2) (re_n1 (by omega))
    have ne' : ¬ hel (p * 6 + a) < 0 := fun q => ne (la.mp q)
    have un : ∀ e', e' < 2 * C → hel (p * 6 + a) = nI e' → e' = e := fun e' h1 h2 => re_inj (by omega) (by omega) (h2.symm.trans e2)
    by_cases hb1 : hel (p * 6 + b) = -1
    · have way2 : ∀ post : Int32 → Prop, wY_look_309 post x5 1 (nI 9) (nI b) z (nI e) (nI T) (nI P) (nI C) (nI Q) cD vd eK eD eP stt (nI L.length) (nI O) tk sa sb eq du nx dd dp dl dm pt cd ct st yd yp ya yf hel mT mK mV ou eu ev → ∀ n, wY_look_68 post (nI (p * 6)) 1 (nI 9) (nI a) (nI b) z (nI T) (nI P) (nI C) (nI Q) cD vd eK eD eP stt (nI L.length) (nI O) tk sa sb eq du nx dd dp dl dm pt cd ct st yd yp ya yf hel mT mK mV ou eu ev (n + 1) x5 x6 (nI 6) := fun post k => way post (fun q => absurd q ne') (fun _ q => absurd (lb.mpr hb1) q) (fun _ _ => by rw [e2]; exact k)
      cases hl : ms_q e L with
      | nil =>
        by_cases g3 : es (pr e) = 3
        · refine po_f 6 (by omega) (by omega) (fun post k => ?_) (fun post k => way2 post (wy_l309g (kd := 2) h s6 (by omega) e1 sa1 (fun _ _ => k) (fun _ w => absurd g3 (al3 w)) (fun m S w => by rw [hl] at w; cases w) (fun m S w => by rw [hl] at w; cases w)))
          exact wx_probeTake h s2 s6 hp ha hb (fun q => absurd q ne) (fun _ q => absurd hb1 q) (fun _ _ _ _ _ _ => k) (fun e' _ a1 a2 _ a3 => absurd g3 (al3 (un e' a1 a2 ▸ a3))) (fun e' m S _ a1 a2 w => by rw [un e' a1 a2, hl] at w; cases w) (fun e' m S _ a1 a2 w => by rw [un e' a1 a2, hl] at w; cases w)
        · have al : es (pr e) = 1 ∨ es (pr e) = 2 := by
            rcases re_peer h.1 e1 (Or.inl sa1) with g | g | g
            · exact Or.inl g
            · exact Or.inr g
            · exact absurd g g3
          refine po_4 (fun post k => ?_) (fun post k => way2 post (wy_l309g (kd := 2) h s6 (by omega) e1 sa1 (fun _ w => absurd w g3) (fun _ _ => k) (fun m S w => by rw [hl] at w; cases w) (fun m S w => by rw [hl] at w; cases w)))
          exact wx_probeTake h s2 s6 hp ha hb (fun q => absurd q ne) (fun _ q => absurd hb1 q) (fun e' _ a1 a2 _ a3 => absurd (un e' a1 a2 ▸ a3) g3) (fun _ _ _ _ _ _ => k) (fun e' m S _ a1 a2 w => by rw [un e' a1 a2, hl] at w; cases w) (fun e' m S _ a1 a2 w => by rw [un e' a1 a2, hl] at w; cases w)
      | cons m S =>
        have um : ∀ e' m' S', e' < 2 * C → hel (p * 6 + a) = nI e' → ms_q e' L = m' :: S' → m' = m := fun e' m' S' a1 a2 w => by rw [un e' a1 a2, hl] at w; exact (List.cons.inj w).1.symm
        have nn : ∀ e', e' < 2 * C → hel (p * 6 + a) = nI e' → ¬ ms_q e' L = [] := fun e' a1 a2 w => by rw [un e' a1 a2, hl] at w; cases w
        by_cases hk : m.2.1 = nI 2
        · refine po_0 (by omega) ⟨e, m, S, hb1, e1, e2, hl, hk⟩ (fun post k => ?_) (fun post k => way2 post (wy_l309g (kd := 2) h s6 (by omega) e1 sa1 (fun w => absurd w (nn e e1 e2)) (fun w => absurd w (nn e e1 e2)) (fun _ _ _ _ => k) (fun m' S' w q => absurd hk (um e m' S' e1 e2 w ▸ q))))
          exact wx_probeTake h s2 s6 hp ha hb (fun q => absurd q ne) (fun _ q => absurd hb1 q) (fun e' _ a1 a2 w => absurd w (nn e' a1 a2)) (fun e' _ a1 a2 w => absurd w (nn e' a1 a2)) (fun _ _ _ _ _ _ _ _ => k) (fun e' m' S' _ a1 a2 w q => absurd hk (um e' m' S' a1 a2 w ▸ q))
        · refine po_f 5 (by omega) (by omega) (fun post k => ?_) (fun post k => way2 post (wy_l309g (kd := 2) h s6 (by omega) e1 sa1 (fun w => absurd w (nn e e1 e2)) (fun w => absurd w (nn e e1 e2)) (fun m' S' w q => absurd (um e m' S' e1 e2 w ▸ q) hk) (fun _ _ _ _ => k)))
          exact wx_probeTake h s2 s6 hp ha hb (fun q => absurd q ne) (fun _ q => absurd hb1 q) (fun e' _ a1 a2 w => absurd w (nn e' a1 a2)) (fun e' _ a1 a2 w => absurd w (nn e' a1 a2)) (fun e' m' S' _ a1 a2 w q => absurd (um e' m' S' a1 a2 w ▸ q) hk) (fun _ _ _ _ _ _ _ _ => k)
    · refine po_f 2 (by omega) (by omega) (fun post k => ?_) (fun post k => way post (fun q => absurd q ne') (fun _ _ => k) (fun _ q => absurd (lb.mp q) hb1))
      exact wx_probeTake h s2 s6 hp ha hb (fun q => absurd q ne) (fun _ _ => k) (fun _ q => absurd q hb1) (fun _ q => absurd q hb1) (fun _ _ _ q => absurd q hb1) (fun _ _ _ q => absurd q hb1)
theorem wb_close {p a : Nat} {y z x5 x6 : Int32} (h : zc P C Q L pv hel es ew qh qc qk qv mT mK mV) (hS : zs P C Q O) (hp : p < P) (ha : a < 6) :
    pout (fun post => wpX_probeClose post (nI T, nI P, nI C, nI Q, stl, cD, vd, eK, eD, eP, stt, nI O, tk, sa, sb, gK, gA, gB, cl, nC, dd, dp, dl, dm, pt, cO, cA, cB, cC, cx, cu, st, pd, pp, pa, pf, pv, es, ew, qh, qc, qk, qv, ou, cm) (nI p) (nI a)) (fun post => ∀ n, wY_look_68 post (nI (p * 6)) 1 (nI 12) (nI a) y z (nI T) (nI P) (nI C) (nI Q) cD vd eK eD eP stt (nI L.length) (nI O) tk sa sb eq du nx dd dp dl dm pt cd ct st yd yp ya yf hel mT mK mV ou eu ev (n + 1) x5 x6 (nI 6)) 12 (∃ e, e < 2 * C ∧ hel (p * 6 + a) = nI e ∧ ms_q e L = []) := by
  obtain ⟨s1, s2, s3, s4, s5, s6, s7⟩ := hS
  have E16 := h.1.1.1
  have way : ∀ post : Int32 → Prop, (hel (p * 6 + a) < 0 → post (-1)) → (¬ hel (p * 6 + a) < 0 → wY_look_309 post x5 1 (nI 12) y z (hel (p * 6 + a)) (nI T) (nI P) (nI C) (nI Q) cD vd eK eD eP stt (nI L.length) (nI O) tk sa sb eq du nx dd dp dl dm pt cd ct st yd yp ya yf hel mT mK mV ou eu ev) → ∀ n, wY_look_68 post (nI (p * 6)) 1 (nI 12) (nI a) y z (nI T) (nI P) (nI C) (nI Q) cD vd eK eD eP stt (nI L.length) (nI O) tk sa sb eq du nx dd dp dl dm pt cd ct st yd yp ya yf hel mT mK mV ou eu ev (n + 1) x5 x6 (nI 6) := fun post k1 k n =>
    wy_way (by omega) ha (by omega) (by omega) (fun q => by omega) (fun q => by omega) (fun _ q => k1 (q.resolve_right (fun w => by omega))) (fun _ q => by omega) (fun _ q _ _ => k q) n
  rcases re_hd h.1 (i := p * 6 + a) (by omega) with zz | ⟨e, e1, e2⟩
  · have no : ∀ e', e' < 2 * C → hel (p * 6 + a) = nI e' → False := fun e' _ q => absurd (zz.symm.trans q) (re_n1 (by omega))
    refine po_f 1 (by omega) (by omega) (fun post k => ?_) (fun post k => way post (fun _ => k) (fun q => absurd nu_m1lt (by rw [zz] at q; exact q)))
    exact wx_probeClose h s2 s6 hp ha (fun _ => k) (fun e a1 q => (no e a1 q).elim) (fun e a1 q => (no e a1 q).elim)
  · have ne : ¬ hel (p * 6 + a) = -1 := fun q => absurd (q.symm.trans e2) (re_n1 (by omega))
    have un : ∀ e', e' < 2 * C → hel (p * 6 + a) = nI e' → e' = e := fun e' h1 h2 => re_inj (by omega) (by omega) (h2.symm.trans e2)
    have way2 : ∀ post : Int32 → Prop, wY_look_309 post x5 1 (nI 12) y z (nI e) (nI T) (nI P) (nI C) (nI Q) cD vd eK eD eP stt (nI L.length) (nI O) tk sa sb eq du nx dd dp dl dm pt cd ct st yd yp ya yf hel mT mK mV ou eu ev → ∀ n, wY_look_68 post (nI (p * 6)) 1 (nI 12) (nI a) y z (nI T) (nI P) (nI C) (nI Q) cD vd eK eD eP stt (nI L.length) (nI O) tk sa sb eq du nx dd dp dl dm pt cd ct st yd yp ya yf hel mT mK mV ou eu ev (n + 1) x5 x6 (nI 6) := fun post k => way post (fun q => absurd q (by rw [e2]; exact nlt_e (by omega))) (fun _ => by rw [e2]; exact k)
    by_cases hl : ms_q e L = []
    · refine po_0 (by omega) ⟨e, e1, e2, hl⟩ (fun post k => ?_) (fun post k => way2 post (wy_l309c h s6 e1 (fun _ => k) (fun w => absurd hl w)))
      exact wx_probeClose h s2 s6 hp ha (fun q => absurd q ne) (fun _ _ _ _ => k) (fun e' a1 a2 a3 => absurd hl (un e' a1 a2 ▸ a3))
    · refine po_f 7 (by omega) (by omega) (fun post k => ?_) (fun post k => way2 post (wy_l309c h s6 e1 (fun w => absurd w hl) (fun _ => k)))
      exact wx_probeClose h s2 s6 hp ha (fun q => absurd q ne) (fun e' a1 a2 a3 => absurd (un e' a1 a2 ▸ a3) hl) (fun _ _ _ _ => k)
end PBB
end
section
section PB2
variable {tY pR cH cP stl cD vd eK eD eP stt oC mC : Int32} {tk sa sb gK gA gB cl nC dd dp dl dm pt cO cA cB cC cx cu st pd pp pa pf pv es ew qh qc qk qv ou cm eq du nx cd ct yd yp ya yf hel mT mK mV eu ev : Nat → Int32}
variable {T P C Q O : Nat} {K A B : Nat → Nat} {L : List MG}
theorem least_or {N : Nat} (F : Nat → Prop) : (∃ q, q < N ∧ F q ∧ ∀ j, j < q → ¬ F j) ∨ (∀ q, q < N → ¬ F q) := by
  by_cases h : ∃ q, q < N ∧ F q
  · obtain ⟨q, q1, q2⟩ := h
    obtain ⟨k, k1, k2, k3⟩ := tm_least F q q2
    exact Or.inl ⟨k, by omega, k2, k3⟩
  · exact Or.inr (fun q q1 q2 => h ⟨q, q1, q2⟩)
theorem least_u {F : Nat → Prop} {q q' : Nat} (h1 : F q) (h2 : ∀ j, j < q → ¬ F j) (h1' : F q') (h2' : ∀ j, j < q' → ¬ F j) : q = q' := by
  rcases Nat.lt_trichotomy q q' with l | l | l
  · exact absurd h1 (h2' q l)
  · exact l
  · exact absurd h1' (h2 q' l)
theorem wb_spawn {p a b m : Nat} {x6 : Int32} (h : zc P C Q L pv hel es ew qh qc qk qv mT mK mV) (hS : zs P C Q O) (hp : p < P) (ha : a < 6) (hb : b < 6) (hm : m < 64) :
    pout (fun post => wpX_probeSpawn post (nI T, nI P, nI C, nI Q, stl, cD, vd, eK, eD, eP, stt, nI O, tk, sa, sb, gK, gA, gB, cl, nC, dd, dp, dl, dm, pt, cO, cA, cB, cC, cx, cu, st, pd, pp, pa, pf, pv, es, ew, qh, qc, qk, qv, ou, cm) (nI p) (nI a) (nI b) (nI m)) (fun post => ∀ n, wY_look_68 post (nI (p * 6)) 1 (nI 13) (nI a) (nI b) (nI m) (nI T) (nI P) (nI C) (nI Q) cD vd eK eD eP stt (nI L.length) (nI O) tk sa sb eq du nx dd dp dl dm pt cd ct st yd yp ya yf hel mT mK mV ou eu ev (n + 1) (nI (jm (bv hel p))) x6 (nI 6)) 13
      (∃ q c, hel (p * 6 + a) = -1 ∧ nI m &&& nI (jm (bv hel p)) = nI m ∧ ¬ dd b = 0 ∧ dp b = nI (1 + bm_c m 6) ∧ q < P ∧ st q = 0 ∧ (∀ j, j < q → ¬ st j = 0) ∧ c < C ∧ es (2 * c) = 0 ∧ (∀ j, j < c → ¬ es (2 * j) = 0)) := by
  obtain ⟨s1, s2, s3, s4, s5, s6, s7⟩ := hS
  have E16 := h.1.1.1
  have la := hel_lt h.1 (i := p * 6 + a) (by omega)
  have way : ∀ post : Int32 → Prop, wY_look_226 post (nI (jm (bv hel p))) 1 (nI 13) (nI a) (nI b) (nI m) 1 (hel (p * 6 + a)) (-1) (nI T) (nI P) (nI C) (nI Q) cD vd eK eD eP stt (nI L.length) (nI O) tk sa sb eq du nx dd dp dl dm pt cd ct st yd yp ya yf hel mT mK mV ou eu ev → ∀ n, wY_look_68 post (nI (p * 6)) 1 (nI 13) (nI a) (nI b) (nI m) (nI T) (nI P) (nI C) (nI Q) cD vd eK eD eP stt (nI L.length) (nI O) tk sa sb eq du nx dd dp dl dm pt cd ct st yd yp ya yf hel mT mK mV ou eu ev (n + 1) (nI (jm (bv hel p))) x6 (nI 6) := fun post k n => by
    refine wy_l6 (by omega) ha (by omega) (by omega) (fun x14 x15 e14 e15 e15' => ?_) (fun q => by omega) n
    rw [if_pos (Or.inl rfl), e14, e15' (by omega)]
    exact k
  by_cases ha1 : hel (p * 6 + a) = -1
  · have hlt := la.mpr ha1
    by_cases hs : nI m &&& nI (jm (bv hel p)) = nI m
    · by_cases hd : dd b = 0 ∨ ¬ dp b = nI (1 + bm_c m 6)
      · have nd : ¬ dd b = 0 → dp b = nI (1 + bm_c m 6) → False := fun q1 q2 => by
          rcases hd with q | q
          · exact q1 q
          · exact q q2
        refine po_f 4 (by omega) (by omega) (fun post k => ?_) (fun post k => way post (wy_lspawn h s6 s2 hb hm (fun q => absurd hlt q) (fun _ q => absurd hs q) (fun _ _ _ => k) (fun _ _ q1 q2 => (nd q1 q2).elim) (fun _ _ q1 q2 => (nd q1 q2).elim)))
        exact wx_probeSpawn h s2 s4 hp ha hb hm (fun q => absurd ha1 q) (fun _ q => absurd hs q) (fun _ _ _ => k) (fun _ _ q1 q2 => (nd q1 q2).elim) (fun _ _ _ _ q1 q2 => (nd q1 q2).elim)
      · have d1 : ¬ dd b = 0 := fun q => hd (Or.inl q)
        have d2 : dp b = nI (1 + bm_c m 6) := Classical.byContradiction (fun q => hd (Or.inr q))
        by_cases room : (∀ c, c < P → ¬ st c = 0) ∨ (∀ c, c < C → ¬ es (2 * c) = 0)
        · have nr : (∃ q, q < P ∧ st q = 0) → (∃ c, c < C ∧ es (2 * c) = 0) → False := fun ⟨q, q1, q2⟩ ⟨c, c1, c2⟩ => by
            rcases room with r | r
            · exact r q q1 q2
            · exact r c c1 c2
          refine po_5 (fun post k => ?_) (fun post k => way post (wy_lspawn h s6 s2 hb hm (fun q => absurd hlt q) (fun _ q => absurd hs q) (fun _ _ q => absurd q hd) (fun _ _ _ _ _ => k) (fun _ _ _ _ q1 q2 => (nr q1 q2).elim)))
          exact wx_probeSpawn h s2 s4 hp ha hb hm (fun q => absurd ha1 q) (fun _ q => absurd hs q) (fun _ _ q => absurd q hd) (fun _ _ _ _ _ => k) (fun q c _ _ _ _ q1 q2 _ c1 c2 _ => (nr ⟨q, q1, q2⟩ ⟨c, c1, c2⟩).elim)
        · obtain ⟨q, q1, q2, q3⟩ := (least_or (N := P) (fun c => st c = 0)).resolve_right (fun w => room (Or.inl w))
          obtain ⟨c, c1, c2, c3⟩ := (least_or (N := C) (fun c => es (2 * c) = 0)).resolve_right (fun w => room (Or.inr w))
          refine po_0 (by omega) ⟨q, c, ha1, hs, d1, d2, q1, q2, q3, c1, c2, c3⟩ (fun post k => ?_) (fun post k => way post (wy_lspawn h s6 s2 hb hm (fun q => absurd hlt q) (fun _ q => absurd hs q) (fun _ _ q => absurd q hd) (fun _ _ _ _ w => absurd w room) (fun _ _ _ _ _ _ => k)))
          exact wx_probeSpawn h s2 s4 hp ha hb hm (fun q => absurd ha1 q) (fun _ q => absurd hs q) (fun _ _ q => absurd q hd) (fun _ _ _ _ w => absurd w room) (fun _ _ _ _ _ _ _ _ _ _ _ _ => k)
    · refine po_f 1 (by omega) (by omega) (fun post k => ?_) (fun post k => way post (wy_lspawn h s6 s2 hb hm (fun q => absurd hlt q) (fun _ _ => k) (fun _ q => absurd q hs) (fun _ q => absurd q hs) (fun _ q => absurd q hs)))
      exact wx_probeSpawn h s2 s4 hp ha hb hm (fun q => absurd ha1 q) (fun _ _ => k) (fun _ q => absurd q hs) (fun _ q => absurd q hs) (fun _ _ _ q => absurd q hs)
  · have hlt : ¬ hel (p * 6 + a) < 0 := fun q => ha1 (la.mp q)
    refine po_f 2 (by omega) (by omega) (fun post k => ?_) (fun post k => way post (wy_lspawn h s6 s2 hb hm (fun _ => k) (fun q => absurd q hlt) (fun q => absurd q hlt) (fun q => absurd q hlt) (fun q => absurd q hlt)))
    exact wx_probeSpawn h s2 s4 hp ha hb hm (fun _ => k) (fun q => absurd q ha1) (fun q => absurd q ha1) (fun q => absurd q ha1) (fun _ _ q => absurd q ha1)
theorem wb_open {p a b : Nat} {z x5 x6 : Int32} (h : zc P C Q L pv hel es ew qh qc qk qv mT mK mV) (hS : zs P C Q O) (hp : p < P) (ha : a < 6) (hb : b < 6) :
    pout (fun post => wpX_probeOpen post (nI T, nI P, nI C, nI Q, stl, cD, vd, eK, eD, eP, stt, nI O, tk, sa, sb, gK, gA, gB, cl, nC, dd, dp, dl, dm, pt, cO, cA, cB, cC, cx, cu, st, pd, pp, pa, pf, pv, es, ew, qh, qc, qk, qv, ou, cm) (nI p) (nI a) (nI b)) (fun post => ∀ n, wY_look_68 post (nI (p * 6)) 1 (nI 14) (nI a) (nI b) z (nI T) (nI P) (nI C) (nI Q) cD vd eK eD eP stt (nI L.length) (nI O) tk sa sb eq du nx dd dp dl dm pt cd ct st yd yp ya yf hel mT mK mV ou eu ev (n + 1) x5 x6 (nI 6)) 14
      (∃ c, ¬ a = b ∧ hel (p * 6 + a) = -1 ∧ hel (p * 6 + b) = -1 ∧ c < C ∧ es (2 * c) = 0 ∧ (∀ j, j < c → ¬ es (2 * j) = 0)) := by
  obtain ⟨s1, s2, s3, s4, s5, s6, s7⟩ := hS
  have E16 := h.1.1.1
  have la := hel_lt h.1 (i := p * 6 + a) (by omega)
  have lb := hel_lt h.1 (i := p * 6 + b) (by omega)
  have iab : nI a = nI b ↔ a = b := nI_eq (by omega) (by omega)
  have way : ∀ post : Int32 → Prop, wY_look_226 post x5 1 (nI 14) (nI a) (nI b) z 1 (hel (p * 6 + a)) (hel (p * 6 + b)) (nI T) (nI P) (nI C) (nI Q) cD vd eK eD eP stt (nI L.length) (nI O) tk sa sb eq du nx dd dp dl dm pt cd ct st yd yp ya yf hel mT mK mV ou eu ev → ∀ n, wY_look_68 post (nI (p * 6)) 1 (nI 14) (nI a) (nI b) z (nI T) (nI P) (nI C) (nI Q) cD vd eK eD eP stt (nI L.length) (nI O) tk sa sb eq du nx dd dp dl dm pt cd ct st yd yp ya yf hel mT mK mV ou eu ev (n + 1) x5 x6 (nI 6) := fun post k n => by
    refine wy_l6 (by omega) ha (by omega) (by omega) (fun x14 x15 e14 e15 e15' => ?_) (fun q => ⟨b, hb, rfl⟩) n
    rw [if_pos (Or.inr rfl), e14, e15 (by omega) b hb rfl]
    exact k
  by_cases hab : a = b
  · refine po_f 3 (by omega) (by omega) (fun post k => ?_) (fun post k => way post (wy_lopen h s6 (fun _ => k) (fun q => absurd (iab.mpr hab) q) (fun q => absurd (iab.mpr hab) q) (fun q => absurd (iab.mpr hab) q)))
    exact wx_probeOpen h s2 s4 hp ha hb (fun _ => k) (fun q => absurd hab q) (fun q => absurd hab q) (fun _ q => absurd hab q)
  · have nab : ¬ nI a = nI b := fun q => hab (iab.mp q)
    by_cases hh : hel (p * 6 + a) = -1 ∧ hel (p * 6 + b) = -1
    · obtain ⟨h1, h2⟩ := hh
      rcases least_or (N := C) (fun c => es (2 * c) = 0) with ⟨c, c1, c2, c3⟩ | w
      · refine po_0 (by omega) ⟨c, hab, h1, h2, c1, c2, c3⟩ (fun post k => ?_) (fun post k => way post (wy_lopen h s6 (fun q => absurd q nab) (fun _ q => ?_) (fun _ _ _ w => absurd c2 (w c c1)) (fun _ _ _ _ => k)))
        · exact wx_probeOpen h s2 s4 hp ha hb (fun q => absurd q hab) (fun _ q => by rcases q with q | q; exact absurd h1 q; exact absurd h2 q) (fun _ _ _ w => absurd c2 (w c c1)) (fun _ _ _ _ _ _ _ => k)
        · rcases q with q | q
          · exact absurd (la.mpr h1) q
          · exact absurd (lb.mpr h2) q
      · refine po_5 (fun post k => ?_) (fun post k => way post (wy_lopen h s6 (fun q => absurd q nab) (fun _ q => ?_) (fun _ _ _ _ => k) (fun _ _ _ ⟨c, c1, c2⟩ => absurd c2 (w c c1))))
        · exact wx_probeOpen h s2 s4 hp ha hb (fun q => absurd q hab) (fun _ q => by rcases q with q | q; exact absurd h1 q; exact absurd h2 q) (fun _ _ _ _ => k) (fun c _ _ _ c1 c2 _ => absurd c2 (w c c1))
        · rcases q with q | q
          · exact absurd (la.mpr h1) q
          · exact absurd (lb.mpr h2) q
    · have hh' : ¬ hel (p * 6 + a) = -1 ∨ ¬ hel (p * 6 + b) = -1 := by
        by_cases q : hel (p * 6 + a) = -1
        · exact Or.inr (fun w => hh ⟨q, w⟩)
        · exact Or.inl q
      refine po_f 2 (by omega) (by omega) (fun post k => ?_) (fun post k => way post (wy_lopen h s6 (fun q => absurd q nab) (fun _ _ => k) (fun _ q1 q2 => absurd ⟨la.mp q1, lb.mp q2⟩ hh) (fun _ q1 q2 => absurd ⟨la.mp q1, lb.mp q2⟩ hh)))
      exact wx_probeOpen h s2 s4 hp ha hb (fun q => absurd q hab) (fun _ _ => k) (fun _ q1 q2 => absurd ⟨q1, q2⟩ hh) (fun _ _ q1 q2 => absurd ⟨q1, q2⟩ hh)
theorem bm_c0 {m : Nat} (h : m = 0) : ∀ v, bm_c m v = 0 := by
  intro v
  induction v with
  | zero => rfl
  | succ v ih => rw [bm_c, ih, h]; unfold bm_n bm_t; rw [Nat.zero_div]; rfl
theorem bm_c0' {g : Nat → Int32} (h : bm_c (jm g) 6 = 0) : jm g = 0 := by
  unfold jm
  rw [bm_m_0]
  intro j hj
  cases hb : cx_b g j with
  | false => rfl
  | true =>
    exfalso
    have h1 : bm_c (jm g) (j + 1) = bm_c (jm g) j + 1 := by
      rw [jm_c hj, if_neg (by unfold cx_b at hb; exact of_decide_eq_true hb)]
    have := bm_c_mono (jm g) (j + 1) (6 - (j + 1))
    rw [show j + 1 + (6 - (j + 1)) = 6 by omega] at this
    omega
theorem wb_probe {p : Nat} (hS : zs P C Q O) (hD : zd T dd dp dl dm pt cO cA cB cC cd cD) (hR : zr T P C Q L stt dd dp dl dm cO cA cB cC st pd pp pa pf pv yd yp ya yf hel es ew qh qc qk qv mT mK mV) (hp : p < P) (h1 : st p = 1) (hs : ¬ stt = 0) :
    ∃ d i n l : Nat, d < 6 ∧ ¬ dd d = 0 ∧ df T dp dl dm cO cA cB cC d n l ∧ dm d = 0 ∧ pd p = nI d ∧ pp p = nI i ∧ i < l ∧
      pout (fun post => wpX_probe post (nI T, nI P, nI C, nI Q, stl, cD, vd, eK, eD, eP, stt, nI O, tk, sa, sb, gK, gA, gB, cl, nC, dd, dp, dl, dm, pt, cO, cA, cB, cC, cx, cu, st, pd, pp, pa, pf, pv, es, ew, qh, qc, qk, qv, ou, cm) (nI p)) (fun post => wpY_look post (nI T, nI P, nI C, nI Q, cD, vd, eK, eD, eP, stt, nI L.length, nI O, tk, sa, sb, eq, du, nx, dd, dp, dl, dm, pt, cd, ct, st, yd, yp, ya, yf, hel, mT, mK, mV, ou, eu, ev) (nI p)) (dop cO d i) (pcn P C Q L dd dp st hel es p (dop cO d i) (cA (d * 24 + i)) (cB (d * 24 + i)) (cC (d * 24 + i))) := by
  obtain ⟨d, i, n, l, hd, hdd, D, hm, hpd, hpp, hi⟩ := (hR.2.2.2.2 hs).2 p hp h1
  refine ⟨d, i, n, l, hd, hdd, D, hm, hpd, hpp, hi, ?_⟩
  obtain ⟨e1, e2, e3, e4⟩ := hR.2.2.1 p hp (by rw [h1]; exact nu_10)
  have l24 := D.2.2.2.1
  have P6 := hS.2.1
  obtain ⟨o1, ok⟩ := D.2.2.2.2.2.2 i hi
  obtain ⟨c0, c1, c2, c3⟩ := hD.2.2.2.1 (d * 24 + i) (by omega)
  obtain ⟨o15, q1, q6, qb, q10, q13, q14⟩ := ok
  have h := hR.1
  have hX : ∀ post : Int32 → Prop, _ := fun post => wx_probe (post := post) (p := p) (d := d) (i := i) (tY := nI T) (pR := nI P) (cH := nI C) (cP := nI Q) (stl := stl) (cD := cD) (vd := vd) (eK := eK) (eD := eD) (eP := eP) (stt := stt) (oC := nI O) (tk := tk) (sa := sa) (sb := sb) (gK := gK) (gA := gA) (gB := gB) (cl := cl) (nC := nC) (dd := dd) (dp := dp) (dl := dl) (dm := dm) (pt := pt) (cO := cO) (cA := cA) (cB := cB) (cC := cC) (cx := cx) (cu := cu) (st := st) (pa := pa) (pf := pf) (pv := pv) (es := es) (ew := ew) (qh := qh) (qc := qc) (qk := qk) (qv := qv) (ou := ou) (cm := cm) (by omega) hd (by omega) hpd hpp o15 o1 rfl rfl rfl
  have hY : ∀ post : Int32 → Prop, _ := fun post => wy_look (post := post) (p := p) (d := d) (i := i) (tY := nI T) (pR := nI P) (cH := nI C) (cP := nI Q) (cD := cD) (vd := vd) (eK := eK) (eD := eD) (eP := eP) (stt := stt) (mC := nI L.length) (oC := nI O) (tk := tk) (sa := sa) (sb := sb) (eq := eq) (du := du) (nx := nx) (dd := dd) (dp := dp) (dl := dl) (dm := dm) (pt := pt) (cd := cd) (ct := ct) (st := st) (ya := ya) (yf := yf) (hel := hel) (mT := mT) (mK := mK) (mV := mV) (ou := ou) (eu := eu) (ev := ev) (by omega) hd (by omega) (e1.symm.trans hpd) (e2.symm.trans hpp) (c0.trans o1) c1 c2 c3
  generalize dop cO d i = o at *
  generalize cA (d * 24 + i) = x at *
  generalize cB (d * 24 + i) = y at *
  generalize cC (d * 24 + i) = z at *
  by_cases o0 : o = 0
  · subst o0
    have hb : ∀ post : Int32 → Prop, (jm (bv hel p) = 0 → post 0) → (¬ jm (bv hel p) = 0 → post 8) → wpX_boundMask (fun r => (((r = 0 → (post 0)) ∧ (¬ r = 0 → (post 8))))) (nI T, nI P, nI C, nI Q, stl, cD, vd, eK, eD, eP, stt, nI O, tk, sa, sb, gK, gA, gB, cl, nC, dd, dp, dl, dm, pt, cO, cA, cB, cC, cx, cu, st, pd, pp, pa, pf, pv, es, ew, qh, qc, qk, qv, ou, cm) (nI p) := fun post k0 k8 => by
      refine wx_boundMask (by omega) ?_
      rw [jm_pv h hp]
      have := jm_64 (bv hel p)
      exact pk_eq (jm (bv hel p)) 0 k0 k8
    by_cases z0 : jm (bv hel p) = 0
    · refine ⟨0, 2, fun post k => hX post (fun _ => hb post (fun _ => k) (fun q => absurd z0 q)) (fun q => by omega) (fun q => by omega) (fun q => by omega) (fun q => by omega) (fun q => by omega) (fun q => by omega) (fun q => by omega) (fun q => by omega) (fun q => by omega) (fun q => by omega), fun post k => hY post (fun n => wy_lstop (bm_c_le _ 6) (fun _ => k) (fun q => absurd (bm_c0 z0 6) q) n), Or.inl ⟨rfl, rfl⟩, fun _ => ⟨fun _ v hv => ?_, fun q => by omega, fun q => by omega, fun q => by omega, fun q => by omega, fun q => by omega, fun q => by omega, fun q => by omega, fun q => by omega⟩⟩
      have hf := (bm_m_0 (cx_b (bv hel p)) 6).mp z0 v hv
      unfold cx_b at hf
      have hf := of_decide_eq_false hf
      refine (hel_lt h.1 (by omega)).mp (Classical.byContradiction (fun q => hf q))
    · refine po_f 8 (by omega) (by omega) (fun post k => hX post (fun _ => hb post (fun q => absurd q z0) (fun _ => k)) (fun q => by omega) (fun q => by omega) (fun q => by omega) (fun q => by omega) (fun q => by omega) (fun q => by omega) (fun q => by omega) (fun q => by omega) (fun q => by omega) (fun q => by omega)) (fun post k => hY post (fun n => wy_lstop (bm_c_le _ 6) (fun q => absurd (bm_c0' q) z0) (fun _ => k) n))
  by_cases o1' : o = 1
  · subst o1'
    obtain ⟨t, t1, rfl⟩ := q1 rfl
    by_cases hj : dd t = 0 ∨ ¬ dp t = nI (bm_c (jm (bv hel p)) 6)
    · have nj : ¬ dd t = 0 → dp t = nI (bm_c (jm (bv hel p)) 6) → False := fun w1 w2 => by
        rcases hj with q | q
        · exact w1 q
        · exact q w2
      exact po_f 4 (by omega) (by omega) (fun post k => hX post (fun q => by omega) (fun _ => wx_probeJump h P6 hp t1 (fun w1 w2 => (nj w1 w2).elim) (fun _ => k)) (fun q => by omega) (fun q => by omega) (fun q => by omega) (fun q => by omega) (fun q => by omega) (fun q => by omega) (fun q => by omega) (fun q => by omega) (fun q => by omega)) (fun post k => hY post (fun n => wy_ljump t1 (fun w1 w2 => (nj w1 w2).elim) (fun _ => k) n))
    · have d1 : ¬ dd t = 0 := fun q => hj (Or.inl q)
      have d2 : dp t = nI (bm_c (jm (bv hel p)) 6) := Classical.byContradiction (fun q => hj (Or.inr q))
      exact po_0 (by omega) ⟨fun q => by omega, fun _ => ⟨t, t1, rfl, d1, d2⟩, fun q => by omega, fun q => by omega, fun q => by omega, fun q => by omega, fun q => by omega, fun q => by omega, fun q => by omega⟩ (fun post k => hX post (fun q => by omega) (fun _ => wx_probeJump h P6 hp t1 (fun _ _ => k) (fun q => absurd q hj)) (fun q => by omega) (fun q => by omega) (fun q => by omega) (fun q => by omega) (fun q => by omega) (fun q => by omega) (fun q => by omega) (fun q => by omega) (fun q => by omega)) (fun post k => hY post (fun n => wy_ljump t1 (fun _ _ => k) (fun q => absurd q hj) n))
  by_cases o6 : o < 6
  · exact po_0 o0 ⟨fun q => by omega, fun q => by omega, fun q => by omega, fun q => by omega, fun q => by omega, fun q => by omega, fun q => by omega, fun q => by omega, fun q => by omega⟩ (fun post k => hX post (fun q => by omega) (fun q => by omega) (fun _ _ => k) (fun q => by omega) (fun q => by omega) (fun q => by omega) (fun q => by omega) (fun q => by omega) (fun q => by omega) (fun q => by omega) (fun q => by omega)) (fun post k => hY post (fun n => wy_lsim (by omega) o6 k n))
  obtain ⟨a, a1, rfl⟩ := q6 (by omega)
  by_cases og : o = 6 ∨ o = 10
  · obtain ⟨r, w, HX, HY, RL, G⟩ := wb_put (T := T) (O := O) (stl := stl) (cD := cD) (vd := vd) (eK := eK) (eD := eD) (eP := eP) (stt := stt) (tk := tk) (sa := sa) (sb := sb) (gK := gK) (gA := gA) (gB := gB) (cl := cl) (nC := nC) (dd := dd) (dp := dp) (dl := dl) (dm := dm) (pt := pt) (cO := cO) (cA := cA) (cB := cB) (cC := cC) (cx := cx) (cu := cu) (st := st) (pd := pd) (pp := pp) (pa := pa) (pf := pf) (ou := ou) (cm := cm) (eq := eq) (du := du) (nx := nx) (cd := cd) (ct := ct) (yd := yd) (yp := yp) (ya := ya) (yf := yf) (eu := eu) (ev := ev) (y := y) (z := z) (x5 := nI (jm (bv hel p))) (x6 := nI (bm_c (jm (bv hel p)) 6)) h hS hp a1 og
    refine ⟨r, w, fun post k => hX post (fun q => by omega) (fun q => by omega) (fun _ q => by omega) (fun _ => HX post k) (fun q => by omega) (fun q => by omega) (fun q => by omega) (fun q => by omega) (fun q => by omega) (fun q => by omega) (fun q => by omega), fun post k => hY post (HY post k), RL, fun hr => ?_⟩
    obtain ⟨e, g1, g2, g3, g4⟩ := G hr
    exact ⟨fun q => by omega, fun q => by omega, fun _ => ⟨a, e, a1, rfl, g1, g2, g3, g4⟩, fun q => by omega, fun q => by omega, fun q => by omega, fun q => by omega, fun q => by omega, fun q => by omega⟩
  by_cases o7 : o = 7
  · subst o7
    obtain ⟨r, w, HX, HY, RL, G⟩ := wb_get (T := T) (O := O) (o := 7) (kd := 1) (stl := stl) (cD := cD) (vd := vd) (eK := eK) (eD := eD) (eP := eP) (stt := stt) (tk := tk) (sa := sa) (sb := sb) (gK := gK) (gA := gA) (gB := gB) (cl := cl) (nC := nC) (dd := dd) (dp := dp) (dl := dl) (dm := dm) (pt := pt) (cO := cO) (cA := cA) (cB := cB) (cC := cC) (cx := cx) (cu := cu) (st := st) (pd := pd) (pp := pp) (pa := pa) (pf := pf) (ou := ou) (cm := cm) (eq := eq) (du := du) (nx := nx) (cd := cd) (ct := ct) (yd := yd) (yp := yp) (ya := ya) (yf := yf) (eu := eu) (ev := ev) (y := y) (z := z) (x5 := nI (jm (bv hel p))) (x6 := nI (bm_c (jm (bv hel p)) 6)) h hS hp a1 (Or.inl ⟨rfl, rfl⟩)
    refine ⟨r, w, fun post k => hX post (fun q => by omega) (fun q => by omega) (fun _ q => by omega) (fun q => by omega) (fun _ => HX post k) (fun q => by omega) (fun q => by omega) (fun q => by omega) (fun q => by omega) (fun q => by omega) (fun q => by omega), fun post k => hY post (HY post k), RL, fun hr => ?_⟩
    obtain ⟨e, m, S, g1, g2, g3, g4⟩ := G hr
    exact ⟨fun q => by omega, fun q => by omega, fun q => by omega, fun _ => ⟨a, e, m, S, a1, rfl, g1, g2, g3, g4⟩, fun q => by omega, fun q => by omega, fun q => by omega, fun q => by omega, fun q => by omega⟩
  by_cases o11 : o = 11
  · subst o11
    obtain ⟨r, w, HX, HY, RL, G⟩ := wb_get (T := T) (O := O) (o := 11) (kd := 3) (stl := stl) (cD := cD) (vd := vd) (eK := eK) (eD := eD) (eP := eP) (stt := stt) (tk := tk) (sa := sa) (sb := sb) (gK := gK) (gA := gA) (gB := gB) (cl := cl) (nC := nC) (dd := dd) (dp := dp) (dl := dl) (dm := dm) (pt := pt) (cO := cO) (cA := cA) (cB := cB) (cC := cC) (cx := cx) (cu := cu) (st := st) (pd := pd) (pp := pp) (pa := pa) (pf := pf) (ou := ou) (cm := cm) (eq := eq) (du := du) (nx := nx) (cd := cd) (ct := ct) (yd := yd) (yp := yp) (ya := ya) (yf := yf) (eu := eu) (ev := ev) (y := y) (z := z) (x5 := nI (jm (bv hel p))) (x6 := nI (bm_c (jm (bv hel p)) 6)) h hS hp a1 (Or.inr ⟨rfl, rfl⟩)
    refine ⟨r, w, fun post k => hX post (fun q => by omega) (fun q => by omega) (fun _ q => by omega) (fun q => by omega) (fun q => by omega) (fun q => by omega) (fun q => by omega) (fun _ => HX post k) (fun q => by omega) (fun q => by omega) (fun q => by omega), fun post k => hY post (HY post k), RL, fun hr => ?_⟩
    obtain ⟨e, m, S, g1, g2, g3, g4⟩ := G hr
    exact ⟨fun q => by omega, fun q => by omega, fun q => by omega, fun _ => ⟨a, e, m, S, a1, rfl, g1, g2, g3, g4⟩, fun q => by omega, fun q => by omega, fun q => by omega, fun q => by omega, fun q => by omega⟩
  by_cases o12 : o = 12
  · subst o12
    obtain ⟨r, w, HX, HY, RL, G⟩ := wb_close (T := T) (O := O) (stl := stl) (cD := cD) (vd := vd) (eK := eK) (eD := eD) (eP := eP) (stt := stt) (tk := tk) (sa := sa) (sb := sb) (gK := gK) (gA := gA) (gB := gB) (cl := cl) (nC := nC) (dd := dd) (dp := dp) (dl := dl) (dm := dm) (pt := pt) (cO := cO) (cA := cA) (cB := cB) (cC := cC) (cx := cx) (cu := cu) (st := st) (pd := pd) (pp := pp) (pa := pa) (pf := pf) (ou := ou) (cm := cm) (eq := eq) (du := du) (nx := nx) (cd := cd) (ct := ct) (yd := yd) (yp := yp) (ya := ya) (yf := yf) (eu := eu) (ev := ev) (y := y) (z := z) (x5 := nI (jm (bv hel p))) (x6 := nI (bm_c (jm (bv hel p)) 6)) h hS hp a1
    refine ⟨r, w, fun post k => hX post (fun q => by omega) (fun q => by omega) (fun _ q => by omega) (fun q => by omega) (fun q => by omega) (fun q => by omega) (fun q => by omega) (fun q => by omega) (fun _ => HX post k) (fun q => by omega) (fun q => by omega), fun post k => hY post (HY post k), RL, fun hr => ?_⟩
    obtain ⟨e, g1, g2, g3⟩ := G hr
    exact ⟨fun q => by omega, fun q => by omega, fun q => by omega, fun q => by omega, fun q => by omega, fun q => by omega, fun _ => ⟨a, e, a1, rfl, g1, g2, g3⟩, fun q => by omega, fun q => by omega⟩
  by_cases o13 : o = 13
  · subst o13
    obtain ⟨⟨b, b1, rfl⟩, m, m1, rfl⟩ := q13 rfl
    obtain ⟨r, w, HX, HY, RL, G⟩ := wb_spawn (T := T) (O := O) (stl := stl) (cD := cD) (vd := vd) (eK := eK) (eD := eD) (eP := eP) (stt := stt) (tk := tk) (sa := sa) (sb := sb) (gK := gK) (gA := gA) (gB := gB) (cl := cl) (nC := nC) (dd := dd) (dp := dp) (dl := dl) (dm := dm) (pt := pt) (cO := cO) (cA := cA) (cB := cB) (cC := cC) (cx := cx) (cu := cu) (st := st) (pd := pd) (pp := pp) (pa := pa) (pf := pf) (ou := ou) (cm := cm) (eq := eq) (du := du) (nx := nx) (cd := cd) (ct := ct) (yd := yd) (yp := yp) (ya := ya) (yf := yf) (eu := eu) (ev := ev) (x6 := nI (bm_c (jm (bv hel p)) 6)) h hS hp a1 b1 m1
    refine ⟨r, w, fun post k => hX post (fun q => by omega) (fun q => by omega) (fun _ q => by omega) (fun q => by omega) (fun q => by omega) (fun q => by omega) (fun q => by omega) (fun q => by omega) (fun q => by omega) (fun _ => HX post k) (fun q => by omega), fun post k => hY post (HY post k), RL, fun hr => ?_⟩
    obtain ⟨q, c, G⟩ := G hr
    exact ⟨fun q => by omega, fun q => by omega, fun q => by omega, fun q => by omega, fun q => by omega, fun q => by omega, fun q => by omega, fun _ => ⟨a, b, m, q, c, a1, b1, m1, rfl, rfl, rfl, G⟩, fun q => by omega⟩
  obtain ⟨b, b1, rfl⟩ := qb (by omega)
  by_cases o8 : o = 8
  · subst o8
    obtain ⟨r, w, HX, HY, RL, G⟩ := wb_give (T := T) (O := O) (stl := stl) (cD := cD) (vd := vd) (eK := eK) (eD := eD) (eP := eP) (stt := stt) (tk := tk) (sa := sa) (sb := sb) (gK := gK) (gA := gA) (gB := gB) (cl := cl) (nC := nC) (dd := dd) (dp := dp) (dl := dl) (dm := dm) (pt := pt) (cO := cO) (cA := cA) (cB := cB) (cC := cC) (cx := cx) (cu := cu) (st := st) (pd := pd) (pp := pp) (pa := pa) (pf := pf) (ou := ou) (cm := cm) (eq := eq) (du := du) (nx := nx) (cd := cd) (ct := ct) (yd := yd) (yp := yp) (ya := ya) (yf := yf) (eu := eu) (ev := ev) (z := z) (x5 := nI (jm (bv hel p))) (x6 := nI (bm_c (jm (bv hel p)) 6)) h hS hp a1 b1
    refine ⟨r, w, fun post k => hX post (fun q => by omega) (fun q => by omega) (fun _ q => by omega) (fun q => by omega) (fun q => by omega) (fun _ => HX post k) (fun q => by omega) (fun q => by omega) (fun q => by omega) (fun q => by omega) (fun q => by omega), fun post k => hY post (HY post k), RL, fun hr => ?_⟩
    obtain ⟨e, f, G⟩ := G hr
    exact ⟨fun q => by omega, fun q => by omega, fun q => by omega, fun q => by omega, fun _ => ⟨a, b, e, f, a1, b1, rfl, rfl, G⟩, fun q => by omega, fun q => by omega, fun q => by omega, fun q => by omega⟩
  by_cases o9 : o = 9
  · subst o9
    obtain ⟨r, w, HX, HY, RL, G⟩ := wb_take (T := T) (O := O) (stl := stl) (cD := cD) (vd := vd) (eK := eK) (eD := eD) (eP := eP) (stt := stt) (tk := tk) (sa := sa) (sb := sb) (gK := gK) (gA := gA) (gB := gB) (cl := cl) (nC := nC) (dd := dd) (dp := dp) (dl := dl) (dm := dm) (pt := pt) (cO := cO) (cA := cA) (cB := cB) (cC := cC) (cx := cx) (cu := cu) (st := st) (pd := pd) (pp := pp) (pa := pa) (pf := pf) (ou := ou) (cm := cm) (eq := eq) (du := du) (nx := nx) (cd := cd) (ct := ct) (yd := yd) (yp := yp) (ya := ya) (yf := yf) (eu := eu) (ev := ev) (z := z) (x5 := nI (jm (bv hel p))) (x6 := nI (bm_c (jm (bv hel p)) 6)) h hS hp a1 b1
    refine ⟨r, w, fun post k => hX post (fun q => by omega) (fun q => by omega) (fun _ q => by omega) (fun q => by omega) (fun q => by omega) (fun q => by omega) (fun _ => HX post k) (fun q => by omega) (fun q => by omega) (fun q => by omega) (fun q => by omega), fun post k => hY post (HY post k), RL, fun hr => ?_⟩
    obtain ⟨e, m, S, G⟩ := G hr
    exact ⟨fun q => by omega, fun q => by omega, fun q => by omega, fun q => by omega, fun q => by omega, fun _ => ⟨a, b, e, m, S, a1, b1, rfl, rfl, G⟩, fun q => by omega, fun q => by omega, fun q => by omega⟩
  · have o14 : o = 14 := by clear q1 q6 qb q10 q13 q14 hX hY; omega
    subst o14
    obtain ⟨r, w, HX, HY, RL, G⟩ := wb_open (T := T) (O := O) (stl := stl) (cD := cD) (vd := vd) (eK := eK) (eD := eD) (eP := eP) (stt := stt) (tk := tk) (sa := sa) (sb := sb) (gK := gK) (gA := gA) (gB := gB) (cl := cl) (nC := nC) (dd := dd) (dp := dp) (dl := dl) (dm := dm) (pt := pt) (cO := cO) (cA := cA) (cB := cB) (cC := cC) (cx := cx) (cu := cu) (st := st) (pd := pd) (pp := pp) (pa := pa) (pf := pf) (ou := ou) (cm := cm) (eq := eq) (du := du) (nx := nx) (cd := cd) (ct := ct) (yd := yd) (yp := yp) (ya := ya) (yf := yf) (eu := eu) (ev := ev) (z := z) (x5 := nI (jm (bv hel p))) (x6 := nI (bm_c (jm (bv hel p)) 6)) h hS hp a1 b1
    refine ⟨r, w, fun post k => hX post (fun q => by omega) (fun q => by omega) (fun _ q => by omega) (fun q => by omega) (fun q => by omega) (fun q => by omega) (fun q => by omega) (fun q => by omega) (fun q => by omega) (fun q => by omega) (fun _ => HX post k), fun post k => hY post (HY post k), RL, fun hr => ?_⟩
    obtain ⟨c, G⟩ := G hr
    exact ⟨fun q => by omega, fun q => by omega, fun q => by omega, fun q => by omega, fun q => by omega, fun q => by omega, fun q => by omega, fun q => by omega, fun _ => ⟨a, b, c, a1, b1, rfl, rfl, G⟩⟩
end PB2
end
section
section EFF
variable {tY pR cH cP stl cD vd eK eD eP stt oC mC : Int32} {tk sa sb gK gA gB cl nC dd dp dl dm pt cO cA cB cC cx cu st pd pp pa pf pv es ew qh qc qk qv ou cm eq du nx cd ct yd yp ya yf hel mT mK mV eu ev : Nat → Int32}
variable {T P C Q O : Nat} {K A B : Nat → Nat} {L : List MG}
/-! X: effects on queues, variables and ends -/
theorem wx_put {post : SX → Prop} {e h c : Nat} {kd va : Int32} (he : e < 16) (h4 : h < 4) (hh : qh e = nI h) (hc : qc e = nI c) (c4 : c < 4) (k : post (tY, pR, cH, cP, stl, cD, vd, eK, eD, eP, stt, oC, tk, sa, sb, gK, gA, gB, cl, nC, dd, dp, dl, dm, pt, cO, cA, cB, cC, cx, cu, st, pd, pp, pa, pf, pv, es, ew, qh, upd qc e (nI (c + 1)), upd qk (e * 4 + (h + c) % 4) kd, upd qv (e * 4 + (h + c) % 4) va, ou, cm)) : wpX_putMessage post (tY, pR, cH, cP, stl, cD, vd, eK, eD, eP, stt, oC, tk, sa, sb, gK, gA, gB, cl, nC, dd, dp, dl, dm, pt, cO, cA, cB, cC, cx, cu, st, pd, pp, pa, pf, pv, es, ew, qh, qc, qk, qv, ou, cm) (nI e) kd va := by
  have i1 : vp_in (nI e) 16 := vp_in_nI he (by decide)
  have ee : (nI e).toNatClampNeg = e := nI_clamp (by omega)
  have i2 : vp_in (nI (e * 4 + (h + c) % 4)) 64 := vp_in_nI (by omega) (by decide)
  have e2 : (nI (e * 4 + (h + c) % 4)).toNatClampNeg = e * 4 + (h + c) % 4 := nI_clamp (by omega)
  unfold wpX_putMessage
  refine ⟨i1, i1, nm_r (e' := nI (e * 4 + (h + c) % 4)) (by rw [ee, hh, hc, nI_add, nu_and3 _ (by omega), nu_m4, nI_add]) ⟨i2, nm_r (e' := upd qk (e * 4 + (h + c) % 4) kd) (by rw [e2]) ⟨i2, nm_r (e' := upd qv (e * 4 + (h + c) % 4) va) (by rw [e2]) ⟨i1, i1, nm_r (e' := upd qc e (nI (c + 1))) (by rw [ee, hc, nI_1]) k⟩⟩⟩⟩
theorem wx_get {post : Int32 → SX → Prop} {e h c : Nat} (he : e < 16) (h4 : h < 4) (hh : qh e = nI h) (hc : qc e = nI (c + 1)) (k : post (qv (e * 4 + h)) (tY, pR, cH, cP, stl, cD, vd, eK, eD, eP, stt, oC, tk, sa, sb, gK, gA, gB, cl, nC, dd, dp, dl, dm, pt, cO, cA, cB, cC, cx, cu, st, pd, pp, pa, pf, pv, es, ew, upd qh e (nI ((h + 1) % 4)), upd qc e (nI c), qk, qv, ou, cm)) : wpX_getMessage post (tY, pR, cH, cP, stl, cD, vd, eK, eD, eP, stt, oC, tk, sa, sb, gK, gA, gB, cl, nC, dd, dp, dl, dm, pt, cO, cA, cB, cC, cx, cu, st, pd, pp, pa, pf, pv, es, ew, qh, qc, qk, qv, ou, cm) (nI e) := by
  have i1 : vp_in (nI e) 16 := vp_in_nI he (by decide)
  have ee : (nI e).toNatClampNeg = e := nI_clamp (by omega)
  have ix : nI e * 4 + qh (nI e).toNatClampNeg = nI (e * 4 + h) := by rw [ee, hh, nu_m4, nI_add]
  unfold wpX_getMessage
  refine ⟨i1, by rw [ix]; exact vp_in_nI (by omega) (by decide), nm_r (e' := qv (e * 4 + h)) (by rw [ix, nI_clamp (by omega)]) ⟨i1, i1, nm_r (e' := upd qh e (nI ((h + 1) % 4))) (by rw [ee, hh, nI_1, nu_and3 _ (by omega)]) ⟨i1, i1, nm_r (e' := upd qc e (nI c)) (by rw [ee, hc, nI_pred]) k⟩⟩⟩
theorem wx_hold {post : SX → Prop} {p a e : Nat} (hp : p < 6) (ha : a < 6) (he : e < 16) (k : post (tY, pR, cH, cP, stl, cD, vd, eK, eD, eP, stt, oC, tk, sa, sb, gK, gA, gB, cl, nC, dd, dp, dl, dm, pt, cO, cA, cB, cC, cx, cu, st, pd, pp, pa, pf, upd pv (p * 6 + a) (nI e), upd es e 1, upd ew e (nI p), qh, qc, qk, qv, ou, cm)) : wpX_hold post (tY, pR, cH, cP, stl, cD, vd, eK, eD, eP, stt, oC, tk, sa, sb, gK, gA, gB, cl, nC, dd, dp, dl, dm, pt, cO, cA, cB, cC, cx, cu, st, pd, pp, pa, pf, pv, es, ew, qh, qc, qk, qv, ou, cm) (nI p) (nI a) (nI e) := by
  have i1 : vp_in (nI e) 16 := vp_in_nI he (by decide)
  have ee : (nI e).toNatClampNeg = e := nI_clamp (by omega)
  have ix : nI p * 6 + nI a = nI (p * 6 + a) := vx
  unfold wpX_hold
  refine ⟨by rw [ix]; exact vp_in_nI (by omega) (by decide), nm_r (e' := upd pv (p * 6 + a) (nI e)) (by rw [ix, nI_clamp (by omega)]) ⟨i1, nm_r (e' := upd es e 1) (by rw [ee]) ⟨i1, nm_r (e' := upd ew e (nI p)) (by rw [ee]) k⟩⟩⟩
theorem wx_emptyQ {post : SX → Prop} {c : Nat} (hc : c < 8) (k : post (tY, pR, cH, cP, stl, cD, vd, eK, eD, eP, stt, oC, tk, sa, sb, gK, gA, gB, cl, nC, dd, dp, dl, dm, pt, cO, cA, cB, cC, cx, cu, st, pd, pp, pa, pf, pv, es, ew, upd (upd qh (2 * c) 0) (2 * c + 1) 0, upd (upd qc (2 * c) 0) (2 * c + 1) 0, qk, qv, ou, cm)) : wpX_emptyQueues post (tY, pR, cH, cP, stl, cD, vd, eK, eD, eP, stt, oC, tk, sa, sb, gK, gA, gB, cl, nC, dd, dp, dl, dm, pt, cO, cA, cB, cC, cx, cu, st, pd, pp, pa, pf, pv, es, ew, qh, qc, qk, qv, ou, cm) (nI c) := by
  have e0 : 2 * nI c = nI (2 * c) := nu_2m c
  have e1 : 2 * nI c + 1 = nI (2 * c + 1) := by rw [e0, nI_1]
  have i0 : vp_in (nI (2 * c)) 16 := vp_in_nI (by omega) (by decide)
  have i1 : vp_in (nI (2 * c + 1)) 16 := vp_in_nI (by omega) (by decide)
  have c0 : (nI (2 * c)).toNatClampNeg = 2 * c := nI_clamp (by omega)
  have c1 : (nI (2 * c + 1)).toNatClampNeg = 2 * c + 1 := nI_clamp (by omega)
  unfold wpX_emptyQueues
  dsimp only
  rw [e1, e0, c0, c1]
  exact ⟨i0, nm_e ⟨i0, nm_e ⟨i1, nm_e ⟨i1, nm_e k⟩⟩⟩⟩
/-! Y -/
theorem wy_put {post : SY → Prop} {w kd va : Int32} (h64 : L.length < 64) (k : post (tY, pR, cH, cP, cD, vd, eK, eD, eP, stt, nI (L.length + 1), oC, tk, sa, sb, eq, du, nx, dd, dp, dl, dm, pt, cd, ct, st, yd, yp, ya, yf, hel, upd mT L.length w, upd mK L.length kd, upd mV L.length va, ou, eu, ev)) : wpY_put post (tY, pR, cH, cP, cD, vd, eK, eD, eP, stt, nI L.length, oC, tk, sa, sb, eq, du, nx, dd, dp, dl, dm, pt, cd, ct, st, yd, yp, ya, yf, hel, mT, mK, mV, ou, eu, ev) w kd va := by
  have i1 : vp_in (nI L.length) 64 := vp_in_nI h64 (by decide)
  have ee : (nI L.length).toNatClampNeg = L.length := nI_clamp (by omega)
  unfold wpY_put
  refine ⟨i1, nm_r (e' := upd mT L.length w) (by rw [ee]) ⟨i1, nm_r (e' := upd mK L.length kd) (by rw [ee]) ⟨i1, nm_r (e' := upd mV L.length va) (by rw [ee]) (nm_r (nI_1 _) k)⟩⟩⟩
def sh (a : Nat → Int32) (j i : Nat) : Nat → Int32 := fun k => if j ≤ k ∧ k < i then a (k + 1) else a k
theorem sh_0 (a : Nat → Int32) (j : Nat) : sh a j j = a := by funext k; unfold sh; exact if_neg (by omega)
theorem sh_s (a : Nat → Int32) {j i : Nat} (h : j ≤ i) {x : Int32} (hx : x = sh a j i (i + 1)) : upd (sh a j i) i x = sh a j (i + 1) := by
  have hx : x = a (i + 1) := by rw [hx]; unfold sh; exact if_neg (by omega)
  funext k
  by_cases e : k = i
  · rw [e, pk_us, hx]; unfold sh; rw [if_pos (by omega)]
  · rw [pk_un e]; unfold sh
    by_cases q : j ≤ k ∧ k < i
    · rw [if_pos q, if_pos (by omega)]
    · rw [if_neg q, if_neg (by omega)]
theorem wy_tk17 {post : Int32 → SY → Prop} {x3 : Int32} {N j : Nat} (hN : N ≤ 64) (hj : j < N) (k : post x3 (tY, pR, cH, cP, cD, vd, eK, eD, eP, stt, nI (N - 1), oC, tk, sa, sb, eq, du, nx, dd, dp, dl, dm, pt, cd, ct, st, yd, yp, ya, yf, hel, sh mT j (N - 1), sh mK j (N - 1), sh mV j (N - 1), ou, eu, ev)) :
    ∀ n i, j ≤ i → i < N → N < n + i + 1 → wY_take_17 post x3 tY pR cH cP cD vd eK eD eP stt (nI N) oC n (nI i) tk sa sb eq du nx dd dp dl dm pt cd ct st yd yp ya yf hel (sh mT j i) (sh mK j i) (sh mV j i) ou eu ev := by
  intro n
  induction n with
  | zero => intro i h1 h2 h3; omega
  | succ n ih =>
    intro i h1 h2 h3
    by_cases e : i + 1 = N
    · refine br_t (by rw [nI_1]; exact nI_le (by omega) (by omega)) (nm_r (e' := nI (N - 1)) (nu_s1 (by omega)) ?_)
      rw [show i = N - 1 by omega]; exact k
    · have i0 : vp_in (nI i) 64 := vp_in_nI (by omega) (by decide)
      have i1 : vp_in (nI (i + 1)) 64 := vp_in_nI (by omega) (by decide)
      refine br_f (by rw [nI_1]; exact nI_ge (by omega) (by omega)) ?_
      rw [nI_1, nI_clamp (show i < 2 ^ 31 by omega), nI_clamp (show i + 1 < 2 ^ 31 by omega)]
      exact ⟨i1, i0, nm_r (sh_s _ h1 rfl) ⟨i1, i0, nm_r (sh_s _ h1 rfl) ⟨i1, i0, nm_r (sh_s _ h1 rfl) (nm_e (ih (i + 1) (by omega) (by omega) (by omega)))⟩⟩⟩
theorem wy_take {post : Int32 → SY → Prop} {e : Nat} {m : MG} {S : List MG} (hA : ms_A L mT mK mV) (h64 : L.length ≤ 64) (hL : ∀ m, m ∈ L → m.1 < 16) (he : e < 16) (hq : ms_q e L = m :: S)
    (k : ∀ mT mK mV : Nat → Int32, ms_A (ms_r e L) mT mK mV → post m.2.2 (tY, pR, cH, cP, cD, vd, eK, eD, eP, stt, nI (ms_r e L).length, oC, tk, sa, sb, eq, du, nx, dd, dp, dl, dm, pt, cd, ct, st, yd, yp, ya, yf, hel, mT, mK, mV, ou, eu, ev)) : wpY_take post (tY, pR, cH, cP, cD, vd, eK, eD, eP, stt, nI L.length, oC, tk, sa, sb, eq, du, nx, dd, dp, dl, dm, pt, cd, ct, st, yd, yp, ya, yf, hel, mT, mK, mV, ou, eu, ev) (nI e) := by
  unfold wpY_take
  refine wy_find (i := 0) hA h64 hL he (by omega) (fun hn => ?_) (fun j hj => ?_)
  · rcases ms_f_spec e 0 L 0 0 (Nat.zero_le _) with ⟨_, z⟩ | ⟨_, m', z, _, _⟩
    · rw [hq] at z; cases z
    · rw [z] at hn; cases hn
  · rcases ms_f_spec e 0 L 0 0 (Nat.zero_le _) with ⟨z, _⟩ | ⟨j', m', z1, z2, z3⟩
    · rw [z] at hj; cases hj
    · rw [hq] at z3
      have e1 : m = m' := Option.some.inj z3
      subst e1
      have e2 : j' = j := by rw [z1, Nat.zero_add] at hj; exact Option.some.inj hj
      subst e2
      have jl : j' < L.length := by
        rcases Nat.lt_or_ge j' L.length with l | l
        · exact l
        · rw [List.getElem?_eq_none l] at z2; cases z2
      have er := ms_f_er e L 0 j' z1
      have ln := ms_r_len L hq
      obtain ⟨a1, a2, a3⟩ := hA j' m z2
      refine ⟨vp_in_nI (by omega) (by decide), nm_r (e' := m.2.2) (by rw [nI_clamp (by omega)]; exact a3) ⟨L.length + 1, ?_⟩⟩
      have := wy_tk17 (post := post) (x3 := m.2.2) (mT := mT) (mK := mK) (mV := mV) h64 jl (by
        rw [show L.length - 1 = (ms_r e L).length by omega]
        refine k _ _ _ (fun q x hx => ?_)
        rw [← er, List.getElem?_eraseIdx] at hx
        unfold sh
        by_cases l : q < j'
        · rw [if_pos l] at hx
          rw [if_neg (by omega), if_neg (by omega), if_neg (by omega)]
          exact hA q x hx
        · rw [if_neg l] at hx
          have ql : q + 1 < L.length := by
            rcases Nat.lt_or_ge (q + 1) L.length with g | g
            · exact g
            · rw [List.getElem?_eq_none g] at hx; cases hx
          rw [if_pos (by omega), if_pos (by omega), if_pos (by omega)]
          exact hA (q + 1) x hx) (L.length + 1) j' (Nat.le_refl _) jl (by omega)
      rw [sh_0, sh_0, sh_0] at this
      exact this
end EFF
end
section
section RL2
variable {tY pR cH cP stl cD vd eK eD eP stt oC mC : Int32} {tk sa sb gK gA gB cl nC dd dp dl dm pt cO cA cB cC cx cu st pd pp pa pf pv es ew qh qc qk qv ou cm eq du nx cd ct yd yp ya yf hel mT mK mV eu ev : Nat → Int32}
variable {T P C Q O : Nat} {K A B : Nat → Nat} {L : List MG}
/-! what the effects keep -/
theorem getl_app {S : List MG} {m x : MG} {i : Nat} (h : (S ++ [m])[i]? = some x) : (i < S.length ∧ S[i]? = some x) ∨ (i = S.length ∧ x = m) := by
  rcases Nat.lt_trichotomy i S.length with l | l | l
  · rw [List.getElem?_append_left l] at h; exact Or.inl ⟨l, h⟩
  · rw [l, List.getElem?_append_right (Nat.le_refl _), Nat.sub_self] at h
    exact Or.inr ⟨l, (Option.some.inj h).symm⟩
  · rw [List.getElem?_eq_none (by rw [List.length_append]; show S.length + 1 ≤ i; omega)] at h; cases h
theorem rq_put {E w h c : Nat} {kd va : Int32} (hq : rq E Q L qh qc qk qv) (hQ : Q ≤ 4) (hw : w < E) (h4 : h < 4) (hh : qh w = nI h) (hc : c = (ms_q w L).length) (cQ : c < Q) :
    rq E Q (L ++ [(w, kd, va)]) qh (upd qc w (nI (c + 1))) (upd qk (w * 4 + (h + c) % 4) kd) (upd qv (w * 4 + (h + c) % 4) va) := by
  intro e he
  obtain ⟨g, g1, g2, g3, g4, g5⟩ := hq e he
  rw [ms_q_app]
  by_cases z : w = e
  · subst z
    have gh : g = h := (nI_eq (by omega) (by omega)).mp (g2.symm.trans hh)
    subst gh
    rw [if_pos rfl]
    refine ⟨g, g1, g2, ?_, ?_, fun i x hx => ?_⟩
    · rw [pk_us, List.length_append, hc]; rfl
    · rw [List.length_append]; show _ + 1 ≤ Q; omega
    · rcases getl_app hx with ⟨l, hx⟩ | ⟨l, hx⟩
      · rw [pk_un (by omega), pk_un (by omega)]; exact g5 i x hx
      · rw [l, hx, ← hc, pk_us, pk_us]; exact ⟨rfl, rfl⟩
  · rw [if_neg z, pk_un (fun q => z q.symm)]
    refine ⟨g, g1, g2, g3, g4, fun i x hx => ?_⟩
    rw [pk_un (by omega), pk_un (by omega)]; exact g5 i x hx
theorem rq_get {E x h c : Nat} {m : MG} {S : List MG} (hq : rq E Q L qh qc qk qv) (hx : x < E) (h4 : h < 4) (hh : qh x = nI h) (hl : ms_q x L = m :: S) (hc : c = S.length) :
    rq E Q (ms_r x L) (upd qh x (nI ((h + 1) % 4))) (upd qc x (nI c)) qk qv := by
  intro e he
  obtain ⟨g, g1, g2, g3, g4, g5⟩ := hq e he
  by_cases z : e = x
  · subst z
    have gh : g = h := (nI_eq (by omega) (by omega)).mp (g2.symm.trans hh)
    subst gh
    rw [ms_r_q, hl, List.tail_cons]
    rw [hl] at g4 g5
    refine ⟨(g + 1) % 4, by omega, pk_us, by rw [pk_us, hc], by rw [List.length_cons] at g4; omega, fun i y hy => ?_⟩
    have := g5 (i + 1) y (by rw [List.getElem?_cons_succ]; exact hy)
    rw [show (g + (i + 1)) % 4 = ((g + 1) % 4 + i) % 4 by omega] at this
    exact this
  · rw [ms_r_qn z, pk_un z, pk_un z]
    exact ⟨g, g1, g2, g3, g4, g5⟩
theorem rq_empty {E c : Nat} (hq : rq E Q L qh qc qk qv) (h0 : ms_q (2 * c) L = []) (h1 : ms_q (2 * c + 1) L = []) : rq E Q L (upd (upd qh (2 * c) 0) (2 * c + 1) 0) (upd (upd qc (2 * c) 0) (2 * c + 1) 0) qk qv := by
  intro e he
  obtain ⟨g, g1, g2, g3, g4, g5⟩ := hq e he
  by_cases z1 : e = 2 * c + 1
  · rw [z1, pk_us, pk_us, h1]
    exact ⟨0, by omega, rfl, rfl, Nat.zero_le _, fun i m h => by cases h⟩
  · rw [pk_un z1, pk_un z1]
    by_cases z0 : e = 2 * c
    · rw [z0, pk_us, pk_us, h0]
      exact ⟨0, by omega, rfl, rfl, Nat.zero_le _, fun i m h => by cases h⟩
    · rw [pk_un z0, pk_un z0]
      exact ⟨g, g1, g2, g3, g4, g5⟩
theorem pv_u {i : Nat} {x : Int32} (h : ∀ j, j < P * 6 → pv j = hel j) : ∀ j, j < P * 6 → upd pv i x j = upd hel i x j := fun j hj => by
  by_cases e : j = i
  · rw [e, pk_us, pk_us]
  · rw [pk_un e, pk_un e]; exact h j hj
theorem hel_u {i : Nat} {x : Int32} (hi : i < P * 6) (h : ∀ j, P * 6 ≤ j → j < 36 → hel j = -1) : ∀ j, P * 6 ≤ j → j < 36 → upd hel i x j = -1 := fun j h1 h2 => by rw [pk_un (by omega)]; exact h j h1 h2
/-- a free channel's queues are empty -/
theorem re_fq (R : re_R (2 * C) hel L es ew) {c : Nat} (hc : c < C) (h : es (2 * c) = 0) : ms_q (2 * c) L = [] ∧ ms_q (2 * c + 1) L = [] := by
  have h1 := re_free R hc h
  constructor
  · rcases R.2.2.2 (2 * c) (by omega) with q | q | q | q
    · exact absurd (h.symm.trans q.1) (by decide)
    · exact absurd (h.symm.trans q.1) (by decide)
    · exact q.2.2.2.2.1
    · exact q.2.2.2.2.1
  · rcases R.2.2.2 (2 * c + 1) (by omega) with q | q | q | q
    · exact absurd (h1.symm.trans q.1) (by decide)
    · exact absurd (h1.symm.trans q.1) (by decide)
    · exact q.2.2.2.2.1
    · exact q.2.2.2.2.1
/-- process p moves to position i' of its definition -/
theorem zp_step {p d i' n l : Nat} {pa' ya' hel' : Nat → Int32} (Z : zp T P stt dd dp dl dm cO cA cB cC st pd pp pa pf yd yp ya yf hel) (hp : p < P) (h1 : st p = 1) (hs : ¬ stt = 0) (hd : d < 6) (hdd : ¬ dd d = 0) (D : df T dp dl dm cO cA cB cC d n l) (hpd : pd p = nI d) (hi : i' < l)
    (ha : ∀ q, q ≠ p → pa' q = pa q ∧ ya' q = ya q) (hap : pa' p = ya' p) (hh : ∀ q, q < P → q ≠ p → ∀ v, v < 6 → hel' (q * 6 + v) = hel (q * 6 + v)) :
    zp T P stt dd dp dl dm cO cA cB cC st pd (upd pp p (nI i')) pa' pf yd (upd yp p (nI i')) ya' yf hel' := by
  obtain ⟨z1, z2, z3, z4⟩ := Z
  refine ⟨z1, fun q hq hn => ?_, fun q hq h0 v hv => ?_, fun _ => ⟨(z4 hs).1, fun q hq h => ?_⟩⟩
  · by_cases e : q = p
    · subst e
      obtain ⟨a1, a2, a3, a4⟩ := z2 q hq hn
      exact ⟨a1, by rw [pk_us, pk_us], hap, a4⟩
    · obtain ⟨a1, a2, a3, a4⟩ := z2 q hq hn
      obtain ⟨b1, b2⟩ := ha q e
      exact ⟨a1, by rw [pk_un e, pk_un e]; exact a2, by rw [b1, b2]; exact a3, a4⟩
  · have e : q ≠ p := fun e => by rw [e, h1] at h0; exact nu_10 h0
    rw [hh q hq e v hv]; exact z3 q hq h0 v hv
  · by_cases e : q = p
    · subst e
      exact ⟨d, i', n, l, hd, hdd, D, (z4 hs).1 d hd hdd, hpd, pk_us, hi⟩
    · rw [pk_un e]; exact (z4 hs).2 q hq h
theorem hel_o {p a : Nat} {x : Int32} (ha : a < 6) : ∀ q, q < P → q ≠ p → ∀ v, v < 6 → upd hel (p * 6 + a) x (q * 6 + v) = hel (q * 6 + v) := fun q _ ne v hv => pk_un (by omega)
/-! outcomes of a step that goes through -/
def sst (u : SX) : Int32 := match u with | (tY, pR, cH, cP, stl, cD, vd, eK, eD, eP, stt, oC, tk, sa, sb, gK, gA, gB, cl, nC, dd, dp, dl, dm, pt, cO, cA, cB, cC, cx, cu, st, pd, pp, pa, pf, pv, es, ew, qh, qc, qk, qv, ou, cm) => stt
def pfo (PX : (Int32 → SX → Prop) → Prop) (PY : (SY → Prop) → Prop) (a : Int32) : Prop := ∃ (u' : SX) (v' : SY), (∀ j, i_Rel j u' v') ∧ ¬ sst u' = 0 ∧ (∀ post : Int32 → SX → Prop, post a u' → PX post) ∧ (∀ post : SY → Prop, post v' → PY post)
/-! Y: the tails of a step -/
section tl
variable {post : SY → Prop} {x1 x2 x3 x4 x7 x8 x9 : Int32} {o : Nat}
theorem wy_498 (h : ¬ nI o = 14) (k : post (tY, pR, cH, cP, cD, vd, eK, eD, eP, stt, mC, oC, tk, sa, sb, eq, du, nx, dd, dp, dl, dm, pt, cd, ct, st, yd, yp, ya, yf, hel, mT, mK, mV, ou, eu, ev)) : wY_perform_498 post x4 (nI o) x7 x8 tY pR cH cP cD vd eK eD eP stt mC oC tk sa sb eq du nx dd dp dl dm pt cd ct st yd yp ya yf hel mT mK mV ou eu ev := br_f h k
theorem wy_480 (h13 : ¬ nI o = 13) (h14 : ¬ nI o = 14) (k : post (tY, pR, cH, cP, cD, vd, eK, eD, eP, stt, mC, oC, tk, sa, sb, eq, du, nx, dd, dp, dl, dm, pt, cd, ct, st, yd, yp, ya, yf, hel, mT, mK, mV, ou, eu, ev)) : wY_perform_480 post x1 x4 (nI o) x7 x8 x9 tY pR cH cP cD vd eK eD eP stt mC oC tk sa sb eq du nx dd dp dl dm pt cd ct st yd yp ya yf hel mT mK mV ou eu ev := br_f h13 (br_f h14 k)
theorem wy_462 (h12 : ¬ nI o = 12) (h13 : ¬ nI o = 13) (h14 : ¬ nI o = 14) (k : post (tY, pR, cH, cP, cD, vd, eK, eD, eP, stt, mC, oC, tk, sa, sb, eq, du, nx, dd, dp, dl, dm, pt, cd, ct, st, yd, yp, ya, yf, hel, mT, mK, mV, ou, eu, ev)) : wY_perform_462 post x1 x4 (nI o) x7 x8 x9 tY pR cH cP cD vd eK eD eP stt mC oC tk sa sb eq du nx dd dp dl dm pt cd ct st yd yp ya yf hel mT mK mV ou eu ev := br_f h12 (br_f h13 (br_f h14 k))
theorem wy_423 (h11 : ¬ nI o = 11) (h12 : ¬ nI o = 12) (h13 : ¬ nI o = 13) (h14 : ¬ nI o = 14) (k : post (tY, pR, cH, cP, cD, vd, eK, eD, eP, stt, mC, oC, tk, sa, sb, eq, du, nx, dd, dp, dl, dm, pt, cd, ct, st, yd, yp, ya, yf, hel, mT, mK, mV, ou, eu, ev)) : wY_perform_423 post x1 x2 x3 x4 (nI o) x7 x8 x9 tY pR cH cP cD vd eK eD eP stt mC oC tk sa sb eq du nx dd dp dl dm pt cd ct st yd yp ya yf hel mT mK mV ou eu ev := br_f h11 (br_f h12 (br_f h13 (br_f h14 k)))
theorem wy_397 (h10 : ¬ nI o = 10) (h11 : ¬ nI o = 11) (h12 : ¬ nI o = 12) (h13 : ¬ nI o = 13) (h14 : ¬ nI o = 14) (k : post (tY, pR, cH, cP, cD, vd, eK, eD, eP, stt, mC, oC, tk, sa, sb, eq, du, nx, dd, dp, dl, dm, pt, cd, ct, st, yd, yp, ya, yf, hel, mT, mK, mV, ou, eu, ev)) : wY_perform_397 post x1 x2 x3 x4 (nI o) x7 x8 x9 tY pR cH cP cD vd eK eD eP stt mC oC tk sa sb eq du nx dd dp dl dm pt cd ct st yd yp ya yf hel mT mK mV ou eu ev := br_f h10 (wy_423 h11 h12 h13 h14 k)
theorem wy_366 (h9 : ¬ nI o = 9) (h10 : ¬ nI o = 10) (h11 : ¬ nI o = 11) (h12 : ¬ nI o = 12) (h13 : ¬ nI o = 13) (h14 : ¬ nI o = 14) (k : post (tY, pR, cH, cP, cD, vd, eK, eD, eP, stt, mC, oC, tk, sa, sb, eq, du, nx, dd, dp, dl, dm, pt, cd, ct, st, yd, yp, ya, yf, hel, mT, mK, mV, ou, eu, ev)) : wY_perform_366 post x1 x2 x3 x4 (nI o) x7 x8 x9 tY pR cH cP cD vd eK eD eP stt mC oC tk sa sb eq du nx dd dp dl dm pt cd ct st yd yp ya yf hel mT mK mV ou eu ev := br_f h9 (wy_397 h10 h11 h12 h13 h14 k)
theorem wy_321 (h8 : ¬ nI o = 8) (h9 : ¬ nI o = 9) (h10 : ¬ nI o = 10) (h11 : ¬ nI o = 11) (h12 : ¬ nI o = 12) (h13 : ¬ nI o = 13) (h14 : ¬ nI o = 14) (k : post (tY, pR, cH, cP, cD, vd, eK, eD, eP, stt, mC, oC, tk, sa, sb, eq, du, nx, dd, dp, dl, dm, pt, cd, ct, st, yd, yp, ya, yf, hel, mT, mK, mV, ou, eu, ev)) : wY_perform_321 post x1 x2 x3 x4 (nI o) x7 x8 x9 tY pR cH cP cD vd eK eD eP stt mC oC tk sa sb eq du nx dd dp dl dm pt cd ct st yd yp ya yf hel mT mK mV ou eu ev := br_f h8 (wy_366 h9 h10 h11 h12 h13 h14 k)
theorem wy_294 (h7 : ¬ nI o = 7) (h8 : ¬ nI o = 8) (h9 : ¬ nI o = 9) (h10 : ¬ nI o = 10) (h11 : ¬ nI o = 11) (h12 : ¬ nI o = 12) (h13 : ¬ nI o = 13) (h14 : ¬ nI o = 14) (k : post (tY, pR, cH, cP, cD, vd, eK, eD, eP, stt, mC, oC, tk, sa, sb, eq, du, nx, dd, dp, dl, dm, pt, cd, ct, st, yd, yp, ya, yf, hel, mT, mK, mV, ou, eu, ev)) : wY_perform_294 post x1 x2 x3 x4 (nI o) x7 x8 x9 tY pR cH cP cD vd eK eD eP stt mC oC tk sa sb eq du nx dd dp dl dm pt cd ct st yd yp ya yf hel mT mK mV ou eu ev := br_f h7 (wy_321 h8 h9 h10 h11 h12 h13 h14 k)
theorem wy_264 (h6 : ¬ nI o = 6) (h7 : ¬ nI o = 7) (h8 : ¬ nI o = 8) (h9 : ¬ nI o = 9) (h10 : ¬ nI o = 10) (h11 : ¬ nI o = 11) (h12 : ¬ nI o = 12) (h13 : ¬ nI o = 13) (h14 : ¬ nI o = 14) (k : post (tY, pR, cH, cP, cD, vd, eK, eD, eP, stt, mC, oC, tk, sa, sb, eq, du, nx, dd, dp, dl, dm, pt, cd, ct, st, yd, yp, ya, yf, hel, mT, mK, mV, ou, eu, ev)) : wY_perform_264 post x1 x2 x3 x4 (nI o) x7 x8 x9 tY pR cH cP cD vd eK eD eP stt mC oC tk sa sb eq du nx dd dp dl dm pt cd ct st yd yp ya yf hel mT mK mV ou eu ev := br_f h6 (wy_294 h7 h8 h9 h10 h11 h12 h13 h14 k)
/-- small instructions: nothing from 264 on -/
theorem wy_264s (h : o < 6) (k : post (tY, pR, cH, cP, cD, vd, eK, eD, eP, stt, mC, oC, tk, sa, sb, eq, du, nx, dd, dp, dl, dm, pt, cd, ct, st, yd, yp, ya, yf, hel, mT, mK, mV, ou, eu, ev)) : wY_perform_264 post x1 x2 x3 x4 (nI o) x7 x8 x9 tY pR cH cP cD vd eK eD eP stt mC oC tk sa sb eq du nx dd dp dl dm pt cd ct st yd yp ya yf hel mT mK mV ou eu ev :=
  wy_264 (nu_ne (b := 6) (by omega) (by omega) (by omega)) (nu_ne (b := 7) (by omega) (by omega) (by omega)) (nu_ne (b := 8) (by omega) (by omega) (by omega)) (nu_ne (b := 9) (by omega) (by omega) (by omega)) (nu_ne (b := 10) (by omega) (by omega) (by omega)) (nu_ne (b := 11) (by omega) (by omega) (by omega)) (nu_ne (b := 12) (by omega) (by omega) (by omega)) (nu_ne (b := 13) (by omega) (by omega) (by omega)) (nu_ne (b := 14) (by omega) (by omega) (by omega)) k
/-- from 80 to 264 for the instructions beyond 5 -/
theorem wy_80h {x5 : Int32} (h : 6 ≤ o) (ho : o < 15) (k : wY_perform_264 post x1 x2 x3 x4 (nI o) x7 x8 x9 tY pR cH cP cD vd eK eD eP stt mC oC tk sa sb eq du nx dd dp dl dm pt cd ct st yd yp ya yf hel mT mK mV ou eu ev) : wY_perform_80 post x1 x2 x3 x4 x5 (nI o) x7 x8 x9 tY pR cH cP cD vd eK eD eP stt mC oC tk sa sb eq du nx dd dp dl dm pt cd ct st yd yp ya yf hel mT mK mV ou eu ev :=
  br_f (nu_ne (b := 1) (by omega) (by omega) (by omega)) (br_f (nu_ne (b := 2) (by omega) (by omega) (by omega)) (br_f (nu_ne (b := 3) (by omega) (by omega) (by omega)) (br_f (nu_ne (b := 4) (by omega) (by omega) (by omega)) (br_f (nu_ne (b := 5) (by omega) (by omega) (by omega)) k))))
end tl
theorem wy_perf {post : SY → Prop} {p d i o : Nat} {x y z : Int32} (hp : p < 6) (hd : d < 6) (hi : i < 24) (hyd : yd p = nI d) (hyp : yp p = nI i) (ho : o < 15) (h0 : cd ((d * 24 + i) * 4) = nI o) (h1 : cd ((d * 24 + i) * 4 + 1) = x) (h2 : cd ((d * 24 + i) * 4 + 2) = y) (h3 : cd ((d * 24 + i) * 4 + 3) = z)
    (k0 : o = 0 → post (tY, pR, cH, cP, cD, vd, eK, eD, eP, stt, mC, oC, tk, sa, sb, eq, du, nx, dd, dp, dl, dm, pt, cd, ct, upd st p 0, yd, upd yp p (nI (i + 1)), ya, yf, hel, mT, mK, mV, ou, eu, ev)) (k : ¬ o = 0 → wY_perform_80 post (nI p) (nI d) (nI i) (nI (p * 6)) 0 (nI o) x y z tY pR cH cP cD vd eK eD eP stt mC oC tk sa sb eq du nx dd dp dl dm pt cd ct st yd (upd yp p (nI (i + 1))) ya yf hel mT mK mV ou eu ev) : wpY_perform post (tY, pR, cH, cP, cD, vd, eK, eD, eP, stt, mC, oC, tk, sa, sb, eq, du, nx, dd, dp, dl, dm, pt, cd, ct, st, yd, yp, ya, yf, hel, mT, mK, mV, ou, eu, ev) (nI p) := by
  have i1 : vp_in (nI p) 6 := vp_in_nI hp (by decide)
  have ee : (nI p).toNatClampNeg = p := nI_clamp (by omega)
  unfold wpY_perform
  refine ⟨i1, nm_r (e' := nI d) (by rw [ee]; exact hyd) ⟨i1, nm_r (e' := nI i) (by rw [ee]; exact hyp) (nm_r (nu_m6 p) ?_)⟩⟩
  refine wy_at (f := 0) hd hi (by omega) ?_
  refine wy_at (f := 1) hd hi (by omega) ?_
  refine wy_at (f := 2) hd hi (by omega) ?_
  refine wy_at (f := 3) hd hi (by omega) ?_
  rw [Nat.add_zero, h0, h1, h2, h3]
  refine ⟨i1, nm_r (e' := upd yp p (nI (i + 1))) (by rw [ee, nI_1]) (pk_eq o 0 (fun q => ⟨i1, nm_r (e' := upd st p 0) (by rw [ee]) ?_⟩) k)⟩
  subst q
  exact br_f (by decide) (br_f (by decide) (br_f (by decide) (br_f (by decide) (br_f (by decide) (wy_264s (o := 0) (by omega) (k0 rfl))))))
end RL2
end
section
section PF1
variable {tY pR cH cP stl cD vd eK eD eP stt oC mC : Int32} {tk sa sb gK gA gB cl nC dd dp dl dm pt cO cA cB cC cx cu st pd pp pa pf pv es ew qh qc qk qv ou cm eq du nx cd ct yd yp ya yf hel mT mK mV eu ev : Nat → Int32}
variable {T P C Q O : Nat} {K A B : Nat → Nat} {L : List MG}
theorem full0 {d n l : Nat} (D : df T dp dl dm cO cA cB cC d n l) (hm : dm d = 0) : tm_M (dop cO d) l = 0 := by
  have h := D.2.2.2.2.1
  rw [hm] at h
  have b := tm_M_le (op := dop cO d) l
  have l24 := D.2.2.2.1
  exact ((nI_eq (a := 0) (by omega) (by omega)).mp h).symm
/-! X: plain instructions -/
theorem wx_p0 {post : Int32 → SX → Prop} {p d i : Nat} {x y z : Int32} (hp : p < 6) (hd : d < 6) (hi : i < 24) (hpd : pd p = nI d) (hpp : pp p = nI i) (h0 : cO (d * 24 + i) = nI 0) (h1 : cA (d * 24 + i) = x) (h2 : cB (d * 24 + i) = y) (h3 : cC (d * 24 + i) = z) (k : post 2 (tY, pR, cH, cP, stl, cD, vd, eK, eD, eP, stt, oC, tk, sa, sb, gK, gA, gB, cl, nC, dd, dp, dl, dm, pt, cO, cA, cB, cC, cx, cu, upd st p 0, upd pd p 0, upd pp p 0, upd pa p 0, upd pf p 0, fw pv (p * 6) 6 (fun _ => -1), es, ew, qh, qc, qk, qv, ou, cm)) : wpX_perform post (tY, pR, cH, cP, stl, cD, vd, eK, eD, eP, stt, oC, tk, sa, sb, gK, gA, gB, cl, nC, dd, dp, dl, dm, pt, cO, cA, cB, cC, cx, cu, st, pd, pp, pa, pf, pv, es, ew, qh, qc, qk, qv, ou, cm) (nI p) := by
  have i1 : vp_in (nI p) 6 := vp_in_nI hp (by decide)
  have ee : (nI p).toNatClampNeg = p := nI_clamp (by omega)
  have i2 : vp_in (nI (d * 24 + i)) 144 := vp_in_nI (by omega) (by decide)
  have e2 : (nI (d * 24 + i)).toNatClampNeg = d * 24 + i := nI_clamp (by omega)
  unfold wpX_perform
  refine ⟨i1, nm_r (e' := nI d) (by rw [ee]; exact hpd) ⟨i1, nm_r (e' := nI i) (by rw [ee]; exact hpp) (nm_r (e' := nI (d * 24 + i)) (by rw [nu_m24, nI_add]) ⟨i2, nm_r (e' := x) (by rw [e2]; exact h1) ⟨i2, nm_r (e' := y) (by rw [e2]; exact h2) (nm_r (nI_1 i) ⟨i2, nm_r (e' := nI 0) (by rw [e2]; exact h0) ?_⟩)⟩⟩)⟩⟩
  refine br_f (by decide) (br_f (by decide) (br_t rfl ?_))
  exact wx_resetSlot hp k
theorem wx_p2 {post : Int32 → SX → Prop} {p d i : Nat} {x y z : Int32} (hp : p < 6) (hd : d < 6) (hi : i < 24) (hpd : pd p = nI d) (hpp : pp p = nI i) (h0 : cO (d * 24 + i) = nI 2) (h1 : cA (d * 24 + i) = x) (h2 : cB (d * 24 + i) = y) (h3 : cC (d * 24 + i) = z) (k : post 1 (tY, pR, cH, cP, stl, cD, vd, eK, eD, eP, stt, oC, tk, sa, sb, gK, gA, gB, cl, nC, dd, dp, dl, dm, pt, cO, cA, cB, cC, cx, cu, st, pd, upd pp p (nI (i + 1)), upd pa p x, pf, pv, es, ew, qh, qc, qk, qv, ou, cm)) : wpX_perform post (tY, pR, cH, cP, stl, cD, vd, eK, eD, eP, stt, oC, tk, sa, sb, gK, gA, gB, cl, nC, dd, dp, dl, dm, pt, cO, cA, cB, cC, cx, cu, st, pd, pp, pa, pf, pv, es, ew, qh, qc, qk, qv, ou, cm) (nI p) := by
  have i1 : vp_in (nI p) 6 := vp_in_nI hp (by decide)
  have ee : (nI p).toNatClampNeg = p := nI_clamp (by omega)
  have i2 : vp_in (nI (d * 24 + i)) 144 := vp_in_nI (by omega) (by decide)
  have e2 : (nI (d * 24 + i)).toNatClampNeg = d * 24 + i := nI_clamp (by omega)
  unfold wpX_perform
  refine ⟨i1, nm_r (e' := nI d) (by rw [ee]; exact hpd) ⟨i1, nm_r (e' := nI i) (by rw [ee]; exact hpp) (nm_r (e' := nI (d * 24 + i)) (by rw [nu_m24, nI_add]) ⟨i2, nm_r (e' := x) (by rw [e2]; exact h1) ⟨i2, nm_r (e' := y) (by rw [e2]; exact h2) (nm_r (nI_1 i) ⟨i2, nm_r (e' := nI 2) (by rw [e2]; exact h0) ?_⟩)⟩⟩)⟩⟩
  refine br_f (by decide) (br_f (by decide) (br_f (by decide) (br_f (by decide) (br_t rfl ?_))))
  exact ⟨i1, nm_r (e' := upd pa p x) (by rw [ee]) ⟨i1, nm_r (e' := upd pp p (nI (i + 1))) (by rw [ee]) k⟩⟩
theorem wx_p3 {post : Int32 → SX → Prop} {p d i : Nat} {x y z : Int32} (hp : p < 6) (hd : d < 6) (hi : i < 24) (hpd : pd p = nI d) (hpp : pp p = nI i) (h0 : cO (d * 24 + i) = nI 3) (h1 : cA (d * 24 + i) = x) (h2 : cB (d * 24 + i) = y) (h3 : cC (d * 24 + i) = z) (k : post 1 (tY, pR, cH, cP, stl, cD, vd, eK, eD, eP, stt, oC, tk, sa, sb, gK, gA, gB, cl, nC, dd, dp, dl, dm, pt, cO, cA, cB, cC, cx, cu, st, pd, upd pp p (nI (i + 1)), upd pa p (pa p + x), pf, pv, es, ew, qh, qc, qk, qv, ou, cm)) : wpX_perform post (tY, pR, cH, cP, stl, cD, vd, eK, eD, eP, stt, oC, tk, sa, sb, gK, gA, gB, cl, nC, dd, dp, dl, dm, pt, cO, cA, cB, cC, cx, cu, st, pd, pp, pa, pf, pv, es, ew, qh, qc, qk, qv, ou, cm) (nI p) := by
  have i1 : vp_in (nI p) 6 := vp_in_nI hp (by decide)
  have ee : (nI p).toNatClampNeg = p := nI_clamp (by omega)
  have i2 : vp_in (nI (d * 24 + i)) 144 := vp_in_nI (by omega) (by decide)
  have e2 : (nI (d * 24 + i)).toNatClampNeg = d * 24 + i := nI_clamp (by omega)
  unfold wpX_perform
  refine ⟨i1, nm_r (e' := nI d) (by rw [ee]; exact hpd) ⟨i1, nm_r (e' := nI i) (by rw [ee]; exact hpp) (nm_r (e' := nI (d * 24 + i)) (by rw [nu_m24, nI_add]) ⟨i2, nm_r (e' := x) (by rw [e2]; exact h1) ⟨i2, nm_r (e' := y) (by rw [e2]; exact h2) (nm_r (nI_1 i) ⟨i2, nm_r (e' := nI 3) (by rw [e2]; exact h0) ?_⟩)⟩⟩)⟩⟩
  refine br_f (by decide) (br_f (by decide) (br_f (by decide) (br_f (by decide) (br_f (by decide) (br_t rfl ?_)))))
  exact ⟨i1, i1, nm_r (e' := upd pa p (pa p + x)) (by rw [ee]) ⟨i1, nm_r (e' := upd pp p (nI (i + 1))) (by rw [ee]) k⟩⟩
theorem wx_p4 {post : Int32 → SX → Prop} {p d i : Nat} {x y z : Int32} (hp : p < 6) (hd : d < 6) (hi : i < 24) (hpd : pd p = nI d) (hpp : pp p = nI i) (h0 : cO (d * 24 + i) = nI 4) (h1 : cA (d * 24 + i) = x) (h2 : cB (d * 24 + i) = y) (h3 : cC (d * 24 + i) = z) (hO : O ≤ 32) (k1 : O < 32 → post 1 (tY, pR, cH, cP, stl, cD, vd, eK, eD, eP, stt, nI (O + 1), tk, sa, sb, gK, gA, gB, cl, nC, dd, dp, dl, dm, pt, cO, cA, cB, cC, cx, cu, st, pd, upd pp p (nI (i + 1)), pa, pf, pv, es, ew, qh, qc, qk, qv, upd ou O (pa p), cm)) (k0 : 32 ≤ O → post 1 (tY, pR, cH, cP, stl, cD, vd, eK, eD, eP, stt, nI O, tk, sa, sb, gK, gA, gB, cl, nC, dd, dp, dl, dm, pt, cO, cA, cB, cC, cx, cu, st, pd, upd pp p (nI (i + 1)), pa, pf, pv, es, ew, qh, qc, qk, qv, ou, cm)) : wpX_perform post (tY, pR, cH, cP, stl, cD, vd, eK, eD, eP, stt, nI O, tk, sa, sb, gK, gA, gB, cl, nC, dd, dp, dl, dm, pt, cO, cA, cB, cC, cx, cu, st, pd, pp, pa, pf, pv, es, ew, qh, qc, qk, qv, ou, cm) (nI p) := by
  have i1 : vp_in (nI p) 6 := vp_in_nI hp (by decide)
  have ee : (nI p).toNatClampNeg = p := nI_clamp (by omega)
  have i2 : vp_in (nI (d * 24 + i)) 144 := vp_in_nI (by omega) (by decide)
  have e2 : (nI (d * 24 + i)).toNatClampNeg = d * 24 + i := nI_clamp (by omega)
  unfold wpX_perform
  refine ⟨i1, nm_r (e' := nI d) (by rw [ee]; exact hpd) ⟨i1, nm_r (e' := nI i) (by rw [ee]; exact hpp) (nm_r (e' := nI (d * 24 + i)) (by rw [nu_m24, nI_add]) ⟨i2, nm_r (e' := x) (by rw [e2]; exact h1) ⟨i2, nm_r (e' := y) (by rw [e2]; exact h2) (nm_r (nI_1 i) ⟨i2, nm_r (e' := nI 4) (by rw [e2]; exact h0) ?_⟩)⟩⟩)⟩⟩
  refine br_f (by decide) (br_f (by decide) (br_f (by decide) (br_f (by decide) (br_f (by decide) (br_f (by decide) (br_t rfl ?_))))))
  refine ⟨i1, ?_⟩
  rw [ee]
  unfold wpX_write
  refine pk_le 32 O (fun q => ⟨i1, nm_e (k0 q)⟩) (fun q => ⟨vp_in_nI (by omega) (by decide), nm_r (e' := upd ou O (pa p)) (by rw [nI_clamp (by omega)]) (nm_r (nI_1 O) ⟨i1, nm_e (k1 q)⟩)⟩)
theorem wx_p5 {post : Int32 → SX → Prop} {p d i : Nat} {x y z : Int32} (hp : p < 6) (hd : d < 6) (hi : i < 24) (hpd : pd p = nI d) (hpp : pp p = nI i) (h0 : cO (d * 24 + i) = nI 5) (h1 : cA (d * 24 + i) = x) (h2 : cB (d * 24 + i) = y) (h3 : cC (d * 24 + i) = z) {n l : Nat} (D : df T dp dl dm cO cA cB cC d n l) (hl : i + 1 ≤ l) (k1 : pa p = 0 → post 1 (tY, pR, cH, cP, stl, cD, vd, eK, eD, eP, stt, oC, tk, sa, sb, gK, gA, gB, cl, nC, dd, dp, dl, dm, pt, cO, cA, cB, cC, cx, cu, st, pd, upd pp p (nI (tm_x (dop cO d) l (i + 1))), pa, pf, pv, es, ew, qh, qc, qk, qv, ou, cm)) (k0 : ¬ pa p = 0 → post 1 (tY, pR, cH, cP, stl, cD, vd, eK, eD, eP, stt, oC, tk, sa, sb, gK, gA, gB, cl, nC, dd, dp, dl, dm, pt, cO, cA, cB, cC, cx, cu, st, pd, upd pp p (nI (i + 1)), pa, pf, pv, es, ew, qh, qc, qk, qv, ou, cm)) : wpX_perform post (tY, pR, cH, cP, stl, cD, vd, eK, eD, eP, stt, oC, tk, sa, sb, gK, gA, gB, cl, nC, dd, dp, dl, dm, pt, cO, cA, cB, cC, cx, cu, st, pd, pp, pa, pf, pv, es, ew, qh, qc, qk, qv, ou, cm) (nI p) := by
  have i1 : vp_in (nI p) 6 := vp_in_nI hp (by decide)
  have ee : (nI p).toNatClampNeg = p := nI_clamp (by omega)
  have i2 : vp_in (nI (d * 24 + i)) 144 := vp_in_nI (by omega) (by decide)
  have e2 : (nI (d * 24 + i)).toNatClampNeg = d * 24 + i := nI_clamp (by omega)
  unfold wpX_perform
  refine ⟨i1, nm_r (e' := nI d) (by rw [ee]; exact hpd) ⟨i1, nm_r (e' := nI i) (by rw [ee]; exact hpp) (nm_r (e' := nI (d * 24 + i)) (by rw [nu_m24, nI_add]) ⟨i2, nm_r (e' := x) (by rw [e2]; exact h1) ⟨i2, nm_r (e' := y) (by rw [e2]; exact h2) (nm_r (nI_1 i) ⟨i2, nm_r (e' := nI 5) (by rw [e2]; exact h0) ?_⟩)⟩⟩)⟩⟩
  refine br_f (by decide) (br_f (by decide) (br_f (by decide) (br_f (by decide) (br_f (by decide) (br_f (by decide) (br_f (by decide) (br_t rfl ?_)))))))
  refine ⟨i1, ?_⟩
  rw [ee, nI_1]
  refine br_c (fun q => wx_termEnd hd D hl ⟨i1, nm_e (k1 q)⟩) (fun q => ⟨i1, nm_e (k0 q)⟩)
/-! both: plain instructions -/
theorem wb_p0 (hS : zs P C Q O) (hT : zt T K A B tk sa sb cl stl) (hD : zd T dd dp dl dm pt cO cA cB cC cd cD) (hV : zv T K A B dd dp dl dm pt cO cA cB cC vd eK eD eP cx cu ct) (hR : zr T P C Q L stt dd dp dl dm cO cA cB cC st pd pp pa pf pv yd yp ya yf hel es ew qh qc qk qv mT mK mV) {p d i n l : Nat} (hp : p < P) (h1 : st p = 1) (hs : ¬ stt = 0) (hd : d < 6) (hdd : ¬ dd d = 0) (D : df T dp dl dm cO cA cB cC d n l) (hm : dm d = 0) (hpd : pd p = nI d) (hpp : pp p = nI i) (hi : i < l) (ho : dop cO d i = 0) (G : ∀ v, v < 6 → hel (p * 6 + v) = -1) : pfo (fun post => wpX_perform post (nI T, nI P, nI C, nI Q, stl, cD, vd, eK, eD, eP, stt, nI O, tk, sa, sb, gK, gA, gB, cl, nC, dd, dp, dl, dm, pt, cO, cA, cB, cC, cx, cu, st, pd, pp, pa, pf, pv, es, ew, qh, qc, qk, qv, ou, cm) (nI p)) (fun post => wpY_perform post (nI T, nI P, nI C, nI Q, cD, vd, eK, eD, eP, stt, nI L.length, nI O, tk, sa, sb, eq, du, nx, dd, dp, dl, dm, pt, cd, ct, st, yd, yp, ya, yf, hel, mT, mK, mV, ou, eu, ev) (nI p)) 2 := by
  obtain ⟨s1, s2, s3, s4, s5, s6, s7⟩ := hS
  have hS : zs P C Q O := ⟨s1, s2, s3, s4, s5, s6, s7⟩
  have l24 := D.2.2.2.1
  have hM := D.2.2.2.2.2.1
  have hE := full0 D hm
  obtain ⟨oo, ok⟩ := D.2.2.2.2.2.2 i hi
  rw [ho] at oo ok
  obtain ⟨c0, c1, c2, c3⟩ := hD.2.2.2.1 (d * 24 + i) (by omega)
  obtain ⟨e1, e2, e3, e4⟩ := hR.2.2.1 p hp (by rw [h1]; exact nu_10)
  have hyd := e1.symm.trans hpd
  have hyp := e2.symm.trans hpp
  have hz := hR.1
  have E16 := hz.1.1.1
  obtain ⟨qa, qb, qc64⟩ := zc_q hz s6
  refine ⟨(nI T, nI P, nI C, nI Q, stl, cD, vd, eK, eD, eP, stt, nI O, tk, sa, sb, gK, gA, gB, cl, nC, dd, dp, dl, dm, pt, cO, cA, cB, cC, cx, cu, upd st p 0, upd pd p 0, upd pp p 0, upd pa p 0, upd pf p 0, fw pv (p * 6) 6 (fun _ => -1), es, ew, qh, qc, qk, qv, ou, cm), (nI T, nI P, nI C, nI Q, cD, vd, eK, eD, eP, stt, nI L.length, nI O, tk, sa, sb, eq, du, nx, dd, dp, dl, dm, pt, cd, ct, upd st p 0, yd, upd yp p (nI (i + 1)), ya, yf, hel, mT, mK, mV, ou, eu, ev), fun j => zz_in hS hT hD hV ⟨⟨hz.1, hz.2.1, hz.2.2.1, fun j hj => ?_, hz.2.2.2.2⟩, fun q hq => ?_, fun q hq hn => ?_, fun q hq h0 v hv => ?_, fun _ => ⟨(hR.2.2.2.2 hs).1, fun q hq h => ?_⟩⟩, hs, fun post k => wx_p0 (by omega) hd (by omega) hpd hpp oo rfl rfl rfl k, fun post k => wy_perf (by omega) hd (by omega) hyd hyp (by omega) (c0.trans oo) c1 c2 c3 (fun _ => k) (fun q => absurd rfl q)⟩
  · by_cases q : p * 6 ≤ j ∧ j < p * 6 + 6
    · have a := G (j - p * 6) (by omega)
      rw [show p * 6 + (j - p * 6) = j by omega] at a
      rw [a]; unfold fw; rw [if_pos q]
    · rw [fw_out (by omega)]; exact hz.2.2.2.1 j hj
  · by_cases e : q = p
    · rw [e, pk_us]
    · rw [pk_un e]; exact hR.2.1 q hq
  · have e : q ≠ p := fun e => by rw [e, pk_us] at hn; exact hn rfl
    rw [pk_un e] at hn
    rw [pk_un e, pk_un e, pk_un e, pk_un e, pk_un e]
    exact hR.2.2.1 q hq hn
  · by_cases e : q = p
    · rw [e]; exact G v hv
    · rw [pk_un e] at h0; exact hR.2.2.2.1 q hq h0 v hv
  · have e : q ≠ p := fun e => by rw [e, pk_us] at h; exact absurd h (by decide)
    rw [pk_un e] at h
    rw [pk_un e, pk_un e]
    exact (hR.2.2.2.2 hs).2 q hq h
theorem wb_p2 (hS : zs P C Q O) (hT : zt T K A B tk sa sb cl stl) (hD : zd T dd dp dl dm pt cO cA cB cC cd cD) (hV : zv T K A B dd dp dl dm pt cO cA cB cC vd eK eD eP cx cu ct) (hR : zr T P C Q L stt dd dp dl dm cO cA cB cC st pd pp pa pf pv yd yp ya yf hel es ew qh qc qk qv mT mK mV) {p d i n l : Nat} (hp : p < P) (h1 : st p = 1) (hs : ¬ stt = 0) (hd : d < 6) (hdd : ¬ dd d = 0) (D : df T dp dl dm cO cA cB cC d n l) (hm : dm d = 0) (hpd : pd p = nI d) (hpp : pp p = nI i) (hi : i < l) (ho : dop cO d i = 2) : pfo (fun post => wpX_perform post (nI T, nI P, nI C, nI Q, stl, cD, vd, eK, eD, eP, stt, nI O, tk, sa, sb, gK, gA, gB, cl, nC, dd, dp, dl, dm, pt, cO, cA, cB, cC, cx, cu, st, pd, pp, pa, pf, pv, es, ew, qh, qc, qk, qv, ou, cm) (nI p)) (fun post => wpY_perform post (nI T, nI P, nI C, nI Q, cD, vd, eK, eD, eP, stt, nI L.length, nI O, tk, sa, sb, eq, du, nx, dd, dp, dl, dm, pt, cd, ct, st, yd, yp, ya, yf, hel, mT, mK, mV, ou, eu, ev) (nI p)) 1 := by
  obtain ⟨s1, s2, s3, s4, s5, s6, s7⟩ := hS
  have hS : zs P C Q O := ⟨s1, s2, s3, s4, s5, s6, s7⟩
  have l24 := D.2.2.2.1
  have hM := D.2.2.2.2.2.1
  have hE := full0 D hm
  obtain ⟨oo, ok⟩ := D.2.2.2.2.2.2 i hi
  rw [ho] at oo ok
  obtain ⟨c0, c1, c2, c3⟩ := hD.2.2.2.1 (d * 24 + i) (by omega)
  obtain ⟨e1, e2, e3, e4⟩ := hR.2.2.1 p hp (by rw [h1]; exact nu_10)
  have hyd := e1.symm.trans hpd
  have hyp := e2.symm.trans hpp
  have hz := hR.1
  have E16 := hz.1.1.1
  obtain ⟨qa, qb, qc64⟩ := zc_q hz s6
  have hn := tm_full_nt hM hE hi (show ¬ (dop cO d i = 0 ∨ dop cO d i = 1) by omega)
  refine ⟨(nI T, nI P, nI C, nI Q, stl, cD, vd, eK, eD, eP, stt, nI O, tk, sa, sb, gK, gA, gB, cl, nC, dd, dp, dl, dm, pt, cO, cA, cB, cC, cx, cu, st, pd, upd pp p (nI (i + 1)), upd pa p (cA (d * 24 + i)), pf, pv, es, ew, qh, qc, qk, qv, ou, cm), (nI T, nI P, nI C, nI Q, cD, vd, eK, eD, eP, stt, nI L.length, nI O, tk, sa, sb, eq, du, nx, dd, dp, dl, dm, pt, cd, ct, st, yd, upd yp p (nI (i + 1)), upd ya p (cA (d * 24 + i)), yf, hel, mT, mK, mV, ou, eu, ev), fun j => zz_in hS hT hD hV ⟨hz, zp_step hR.2 hp h1 hs hd hdd D hpd hn (fun q e => ⟨pk_un e, pk_un e⟩) (by rw [pk_us, pk_us]) (fun _ _ _ _ _ => rfl)⟩, hs, fun post k => wx_p2 (by omega) hd (by omega) hpd hpp oo rfl rfl rfl k, fun post k => wy_perf (by omega) hd (by omega) hyd hyp (by omega) (c0.trans oo) c1 c2 c3 (fun q => absurd q (by decide)) (fun _ => ?_)⟩
  have i1 : vp_in (nI p) 6 := vp_in_nI (by omega) (by decide)
  have ee : (nI p).toNatClampNeg = p := nI_clamp (by omega)
  exact br_f (by decide) (br_t rfl ⟨i1, nm_r (e' := upd ya p (cA (d * 24 + i))) (by rw [ee]) (br_f (by decide) (br_f (by decide) (br_f (by decide) (wy_264s (o := 2) (by omega) k))))⟩)
theorem wb_p3 (hS : zs P C Q O) (hT : zt T K A B tk sa sb cl stl) (hD : zd T dd dp dl dm pt cO cA cB cC cd cD) (hV : zv T K A B dd dp dl dm pt cO cA cB cC vd eK eD eP cx cu ct) (hR : zr T P C Q L stt dd dp dl dm cO cA cB cC st pd pp pa pf pv yd yp ya yf hel es ew qh qc qk qv mT mK mV) {p d i n l : Nat} (hp : p < P) (h1 : st p = 1) (hs : ¬ stt = 0) (hd : d < 6) (hdd : ¬ dd d = 0) (D : df T dp dl dm cO cA cB cC d n l) (hm : dm d = 0) (hpd : pd p = nI d) (hpp : pp p = nI i) (hi : i < l) (ho : dop cO d i = 3) : pfo (fun post => wpX_perform post (nI T, nI P, nI C, nI Q, stl, cD, vd, eK, eD, eP, stt, nI O, tk, sa, sb, gK, gA, gB, cl, nC, dd, dp, dl, dm, pt, cO, cA, cB, cC, cx, cu, st, pd, pp, pa, pf, pv, es, ew, qh, qc, qk, qv, ou, cm) (nI p)) (fun post => wpY_perform post (nI T, nI P, nI C, nI Q, cD, vd, eK, eD, eP, stt, nI L.length, nI O, tk, sa, sb, eq, du, nx, dd, dp, dl, dm, pt, cd, ct, st, yd, yp, ya, yf, hel, mT, mK, mV, ou, eu, ev) (nI p)) 1 := by
  obtain ⟨s1, s2, s3, s4, s5, s6, s7⟩ := hS
  have hS : zs P C Q O := ⟨s1, s2, s3, s4, s5, s6, s7⟩
  have l24 := D.2.2.2.1
  have hM := D.2.2.2.2.2.1
  have hE := full0 D hm
  obtain ⟨oo, ok⟩ := D.2.2.2.2.2.2 i hi
  rw [ho] at oo ok
  obtain ⟨c0, c1, c2, c3⟩ := hD.2.2.2.1 (d * 24 + i) (by omega)
  obtain ⟨e1, e2, e3, e4⟩ := hR.2.2.1 p hp (by rw [h1]; exact nu_10)
  have hyd := e1.symm.trans hpd
  have hyp := e2.symm.trans hpp
  have hz := hR.1
  have E16 := hz.1.1.1
  obtain ⟨qa, qb, qc64⟩ := zc_q hz s6
  have hn := tm_full_nt hM hE hi (show ¬ (dop cO d i = 0 ∨ dop cO d i = 1) by omega)
  refine ⟨(nI T, nI P, nI C, nI Q, stl, cD, vd, eK, eD, eP, stt, nI O, tk, sa, sb, gK, gA, gB, cl, nC, dd, dp, dl, dm, pt, cO, cA, cB, cC, cx, cu, st, pd, upd pp p (nI (i + 1)), upd pa p (pa p + cA (d * 24 + i)), pf, pv, es, ew, qh, qc, qk, qv, ou, cm), (nI T, nI P, nI C, nI Q, cD, vd, eK, eD, eP, stt, nI L.length, nI O, tk, sa, sb, eq, du, nx, dd, dp, dl, dm, pt, cd, ct, st, yd, upd yp p (nI (i + 1)), upd ya p (ya p + cA (d * 24 + i)), yf, hel, mT, mK, mV, ou, eu, ev), fun j => zz_in hS hT hD hV ⟨hz, zp_step hR.2 hp h1 hs hd hdd D hpd hn (fun q e => ⟨pk_un e, pk_un e⟩) (by rw [pk_us, pk_us, e3]) (fun _ _ _ _ _ => rfl)⟩, hs, fun post k => wx_p3 (by omega) hd (by omega) hpd hpp oo rfl rfl rfl k, fun post k => wy_perf (by omega) hd (by omega) hyd hyp (by omega) (c0.trans oo) c1 c2 c3 (fun q => absurd q (by decide)) (fun _ => ?_)⟩
  have i1 : vp_in (nI p) 6 := vp_in_nI (by omega) (by decide)
  have ee : (nI p).toNatClampNeg = p := nI_clamp (by omega)
  exact br_f (by decide) (br_f (by decide) (br_t rfl ⟨i1, i1, nm_r (e' := upd ya p (ya p + cA (d * 24 + i))) (by rw [ee]) (br_f (by decide) (br_f (by decide) (wy_264s (o := 3) (by omega) k)))⟩))
theorem wb_p4 (hS : zs P C Q O) (hT : zt T K A B tk sa sb cl stl) (hD : zd T dd dp dl dm pt cO cA cB cC cd cD) (hV : zv T K A B dd dp dl dm pt cO cA cB cC vd eK eD eP cx cu ct) (hR : zr T P C Q L stt dd dp dl dm cO cA cB cC st pd pp pa pf pv yd yp ya yf hel es ew qh qc qk qv mT mK mV) {p d i n l : Nat} (hp : p < P) (h1 : st p = 1) (hs : ¬ stt = 0) (hd : d < 6) (hdd : ¬ dd d = 0) (D : df T dp dl dm cO cA cB cC d n l) (hm : dm d = 0) (hpd : pd p = nI d) (hpp : pp p = nI i) (hi : i < l) (ho : dop cO d i = 4) : pfo (fun post => wpX_perform post (nI T, nI P, nI C, nI Q, stl, cD, vd, eK, eD, eP, stt, nI O, tk, sa, sb, gK, gA, gB, cl, nC, dd, dp, dl, dm, pt, cO, cA, cB, cC, cx, cu, st, pd, pp, pa, pf, pv, es, ew, qh, qc, qk, qv, ou, cm) (nI p)) (fun post => wpY_perform post (nI T, nI P, nI C, nI Q, cD, vd, eK, eD, eP, stt, nI L.length, nI O, tk, sa, sb, eq, du, nx, dd, dp, dl, dm, pt, cd, ct, st, yd, yp, ya, yf, hel, mT, mK, mV, ou, eu, ev) (nI p)) 1 := by
  obtain ⟨s1, s2, s3, s4, s5, s6, s7⟩ := hS
  have hS : zs P C Q O := ⟨s1, s2, s3, s4, s5, s6, s7⟩
  have l24 := D.2.2.2.1
  have hM := D.2.2.2.2.2.1
  have hE := full0 D hm
  obtain ⟨oo, ok⟩ := D.2.2.2.2.2.2 i hi
  rw [ho] at oo ok
  obtain ⟨c0, c1, c2, c3⟩ := hD.2.2.2.1 (d * 24 + i) (by omega)
  obtain ⟨e1, e2, e3, e4⟩ := hR.2.2.1 p hp (by rw [h1]; exact nu_10)
  have hyd := e1.symm.trans hpd
  have hyp := e2.symm.trans hpp
  have hz := hR.1
  have E16 := hz.1.1.1
  obtain ⟨qa, qb, qc64⟩ := zc_q hz s6
  have hn := tm_full_nt hM hE hi (show ¬ (dop cO d i = 0 ∨ dop cO d i = 1) by omega)
  have i1 : vp_in (nI p) 6 := vp_in_nI (by omega) (by decide)
  have ee : (nI p).toNatClampNeg = p := nI_clamp (by omega)
  have Z := zp_step hR.2 hp h1 hs hd hdd D hpd hn (pa' := pa) (ya' := ya) (hel' := hel) (fun q e => ⟨rfl, rfl⟩) e3 (fun _ _ _ _ _ => rfl)
  by_cases hO : O < 32
  · refine ⟨(nI T, nI P, nI C, nI Q, stl, cD, vd, eK, eD, eP, stt, nI (O + 1), tk, sa, sb, gK, gA, gB, cl, nC, dd, dp, dl, dm, pt, cO, cA, cB, cC, cx, cu, st, pd, upd pp p (nI (i + 1)), pa, pf, pv, es, ew, qh, qc, qk, qv, upd ou O (pa p), cm), (nI T, nI P, nI C, nI Q, cD, vd, eK, eD, eP, stt, nI L.length, nI (O + 1), tk, sa, sb, eq, du, nx, dd, dp, dl, dm, pt, cd, ct, st, yd, upd yp p (nI (i + 1)), ya, yf, hel, mT, mK, mV, upd ou O (pa p), eu, ev), fun j => zz_in (O := O + 1) ⟨s1, s2, s3, s4, s5, s6, by omega⟩ hT hD hV ⟨hz, Z⟩, hs, fun post k => wx_p4 (by omega) hd (by omega) hpd hpp oo rfl rfl rfl s7 (fun _ => k) (fun q => absurd q (by omega)), fun post k => wy_perf (by omega) hd (by omega) hyd hyp (by omega) (c0.trans oo) c1 c2 c3 (fun q => absurd q (by decide)) (fun _ => ?_)⟩
    refine br_f (by decide) (br_f (by decide) (br_f (by decide) (br_t rfl (br_f (nI_ge (b := 32) hO (by omega)) ⟨i1, vp_in_nI hO (by decide), nm_r (e' := upd ou O (pa p)) (by rw [ee, nI_clamp (by omega), e3]) (nm_r (nI_1 O) (br_f (by decide) (wy_264s (o := 4) (by omega) k)))⟩))))
  · refine ⟨(nI T, nI P, nI C, nI Q, stl, cD, vd, eK, eD, eP, stt, nI O, tk, sa, sb, gK, gA, gB, cl, nC, dd, dp, dl, dm, pt, cO, cA, cB, cC, cx, cu, st, pd, upd pp p (nI (i + 1)), pa, pf, pv, es, ew, qh, qc, qk, qv, ou, cm), (nI T, nI P, nI C, nI Q, cD, vd, eK, eD, eP, stt, nI L.length, nI O, tk, sa, sb, eq, du, nx, dd, dp, dl, dm, pt, cd, ct, st, yd, upd yp p (nI (i + 1)), ya, yf, hel, mT, mK, mV, ou, eu, ev), fun j => zz_in hS hT hD hV ⟨hz, Z⟩, hs, fun post k => wx_p4 (by omega) hd (by omega) hpd hpp oo rfl rfl rfl s7 (fun q => absurd q hO) (fun _ => k), fun post k => wy_perf (by omega) hd (by omega) hyd hyp (by omega) (c0.trans oo) c1 c2 c3 (fun q => absurd q (by decide)) (fun _ => ?_)⟩
    exact br_f (by decide) (br_f (by decide) (br_f (by decide) (br_t rfl (br_t (nI_le (a := 32) (by omega) (by omega)) (br_f (by decide) (wy_264s (o := 4) (by omega) k))))))
theorem wb_p5 (hS : zs P C Q O) (hT : zt T K A B tk sa sb cl stl) (hD : zd T dd dp dl dm pt cO cA cB cC cd cD) (hV : zv T K A B dd dp dl dm pt cO cA cB cC vd eK eD eP cx cu ct) (hR : zr T P C Q L stt dd dp dl dm cO cA cB cC st pd pp pa pf pv yd yp ya yf hel es ew qh qc qk qv mT mK mV) {p d i n l : Nat} (hp : p < P) (h1 : st p = 1) (hs : ¬ stt = 0) (hd : d < 6) (hdd : ¬ dd d = 0) (D : df T dp dl dm cO cA cB cC d n l) (hm : dm d = 0) (hpd : pd p = nI d) (hpp : pp p = nI i) (hi : i < l) (ho : dop cO d i = 5) : pfo (fun post => wpX_perform post (nI T, nI P, nI C, nI Q, stl, cD, vd, eK, eD, eP, stt, nI O, tk, sa, sb, gK, gA, gB, cl, nC, dd, dp, dl, dm, pt, cO, cA, cB, cC, cx, cu, st, pd, pp, pa, pf, pv, es, ew, qh, qc, qk, qv, ou, cm) (nI p)) (fun post => wpY_perform post (nI T, nI P, nI C, nI Q, cD, vd, eK, eD, eP, stt, nI L.length, nI O, tk, sa, sb, eq, du, nx, dd, dp, dl, dm, pt, cd, ct, st, yd, yp, ya, yf, hel, mT, mK, mV, ou, eu, ev) (nI p)) 1 := by
  obtain ⟨s1, s2, s3, s4, s5, s6, s7⟩ := hS
  have hS : zs P C Q O := ⟨s1, s2, s3, s4, s5, s6, s7⟩
  have l24 := D.2.2.2.1
  have hM := D.2.2.2.2.2.1
  have hE := full0 D hm
  obtain ⟨oo, ok⟩ := D.2.2.2.2.2.2 i hi
  rw [ho] at oo ok
  obtain ⟨c0, c1, c2, c3⟩ := hD.2.2.2.1 (d * 24 + i) (by omega)
  obtain ⟨e1, e2, e3, e4⟩ := hR.2.2.1 p hp (by rw [h1]; exact nu_10)
  have hyd := e1.symm.trans hpd
  have hyp := e2.symm.trans hpp
  have hz := hR.1
  have E16 := hz.1.1.1
  obtain ⟨qa, qb, qc64⟩ := zc_q hz s6
  have hn := tm_full_nt hM hE hi (show ¬ (dop cO d i = 0 ∨ dop cO d i = 1) by omega)
  have i1 : vp_in (nI p) 6 := vp_in_nI (by omega) (by decide)
  have ee : (nI p).toNatClampNeg = p := nI_clamp (by omega)
  obtain ⟨te, t1, t2⟩ := tm_full_frk hM hE hi (Or.inl ho)
  have Z := fun i' (hi' : i' < l) => zp_step hR.2 hp h1 hs hd hdd D hpd hi' (pa' := pa) (ya' := ya) (hel' := hel) (fun q e => ⟨rfl, rfl⟩) e3 (fun _ _ _ _ _ => rfl)
  by_cases a0 : pa p = 0
  · refine ⟨(nI T, nI P, nI C, nI Q, stl, cD, vd, eK, eD, eP, stt, nI O, tk, sa, sb, gK, gA, gB, cl, nC, dd, dp, dl, dm, pt, cO, cA, cB, cC, cx, cu, st, pd, upd pp p (nI te), pa, pf, pv, es, ew, qh, qc, qk, qv, ou, cm), (nI T, nI P, nI C, nI Q, cD, vd, eK, eD, eP, stt, nI L.length, nI O, tk, sa, sb, eq, du, nx, dd, dp, dl, dm, pt, cd, ct, st, yd, upd yp p (nI te), ya, yf, hel, mT, mK, mV, ou, eu, ev), fun j => zz_in hS hT hD hV ⟨hz, Z te t2⟩, hs, fun post k => wx_p5 (by omega) hd (by omega) hpd hpp oo rfl rfl rfl D (by omega) (fun _ => by rw [tm_x_T t1]; exact k) (fun q => absurd a0 q), fun post k => wy_perf (by omega) hd (by omega) hyd hyp (by omega) (c0.trans oo) c1 c2 c3 (fun q => absurd q (by decide)) (fun _ => ?_)⟩
    have a0' : ya p = 0 := e3.symm.trans a0
    refine br_f (by decide) (br_f (by decide) (br_f (by decide) (br_f (by decide) (br_t rfl ⟨i1, br_t (by rw [ee]; exact a0') ?_⟩))))
    rw [nI_1]
    refine wy_termEnd hd D hD.2.2.2.1 (by omega) ⟨i1, nm_r (e' := upd yp p (nI te)) (by rw [ee, tm_e_T t1, up_up]) (wy_264s (o := 5) (by omega) k)⟩
  · refine ⟨(nI T, nI P, nI C, nI Q, stl, cD, vd, eK, eD, eP, stt, nI O, tk, sa, sb, gK, gA, gB, cl, nC, dd, dp, dl, dm, pt, cO, cA, cB, cC, cx, cu, st, pd, upd pp p (nI (i + 1)), pa, pf, pv, es, ew, qh, qc, qk, qv, ou, cm), (nI T, nI P, nI C, nI Q, cD, vd, eK, eD, eP, stt, nI L.length, nI O, tk, sa, sb, eq, du, nx, dd, dp, dl, dm, pt, cd, ct, st, yd, upd yp p (nI (i + 1)), ya, yf, hel, mT, mK, mV, ou, eu, ev), fun j => zz_in hS hT hD hV ⟨hz, Z (i + 1) hn⟩, hs, fun post k => wx_p5 (by omega) hd (by omega) hpd hpp oo rfl rfl rfl D (by omega) (fun q => absurd q a0) (fun _ => k), fun post k => wy_perf (by omega) hd (by omega) hyd hyp (by omega) (c0.trans oo) c1 c2 c3 (fun q => absurd q (by decide)) (fun _ => ?_)⟩
    have a0' : ¬ ya p = 0 := fun q => a0 (e3.trans q)
    exact br_f (by decide) (br_f (by decide) (br_f (by decide) (br_f (by decide) (br_t rfl ⟨i1, br_f (by rw [ee]; exact a0') (wy_264s (o := 5) (by omega) k)⟩))))
end PF1
end
section
section PF2
variable {tY pR cH cP stl cD vd eK eD eP stt oC mC : Int32} {tk sa sb gK gA gB cl nC dd dp dl dm pt cO cA cB cC cx cu st pd pp pa pf pv es ew qh qc qk qv ou cm eq du nx cd ct yd yp ya yf hel mT mK mV eu ev : Nat → Int32}
variable {T P C Q O : Nat} {K A B : Nat → Nat} {L : List MG}
/-! X: instructions on channels -/
theorem wx_p6 {post : Int32 → SX → Prop} {p d i : Nat} {x y z : Int32} (hp : p < 6) (hd : d < 6) (hi : i < 24) (hpd : pd p = nI d) (hpp : pp p = nI i) (h0 : cO (d * 24 + i) = nI 6) (h1 : cA (d * 24 + i) = x) (h2 : cB (d * 24 + i) = y) (h3 : cC (d * 24 + i) = z) {a e h c : Nat} (ha : a < 6) (hx : x = nI a) (he : e < 16) (hv : pv (p * 6 + a) = nI e) (h4 : h < 4) (hh : qh (pr e) = nI h) (hc : qc (pr e) = nI c) (c4 : c < 4) (k : post 1 (tY, pR, cH, cP, stl, cD, vd, eK, eD, eP, stt, oC, tk, sa, sb, gK, gA, gB, cl, nC, dd, dp, dl, dm, pt, cO, cA, cB, cC, cx, cu, st, pd, upd pp p (nI (i + 1)), pa, pf, pv, es, ew, qh, upd qc (pr e) (nI (c + 1)), upd qk (pr e * 4 + (h + c) % 4) 1, upd qv (pr e * 4 + (h + c) % 4) (pa p), ou, cm)) : wpX_perform post (tY, pR, cH, cP, stl, cD, vd, eK, eD, eP, stt, oC, tk, sa, sb, gK, gA, gB, cl, nC, dd, dp, dl, dm, pt, cO, cA, cB, cC, cx, cu, st, pd, pp, pa, pf, pv, es, ew, qh, qc, qk, qv, ou, cm) (nI p) := by
  have pe : pr e < 16 := pr_lt he (by decide)
  have i1 : vp_in (nI p) 6 := vp_in_nI hp (by decide)
  have ee : (nI p).toNatClampNeg = p := nI_clamp (by omega)
  have i2 : vp_in (nI (d * 24 + i)) 144 := vp_in_nI (by omega) (by decide)
  have e2 : (nI (d * 24 + i)).toNatClampNeg = d * 24 + i := nI_clamp (by omega)
  unfold wpX_perform
  refine ⟨i1, nm_r (e' := nI d) (by rw [ee]; exact hpd) ⟨i1, nm_r (e' := nI i) (by rw [ee]; exact hpp) (nm_r (e' := nI (d * 24 + i)) (by rw [nu_m24, nI_add]) ⟨i2, nm_r (e' := x) (by rw [e2]; exact h1) ⟨i2, nm_r (e' := y) (by rw [e2]; exact h2) (nm_r (nI_1 i) ⟨i2, nm_r (e' := nI 6) (by rw [e2]; exact h0) ?_⟩)⟩⟩)⟩⟩
  refine br_f (by decide) (br_f (by decide) (br_f (by decide) (br_f (by decide) (br_f (by decide) (br_f (by decide) (br_f (by decide) (br_f (by decide) (br_t rfl ?_))))))))
  rw [hx]
  have ix : nI p * 6 + nI a = nI (p * 6 + a) := vx
  refine ⟨by rw [ix]; exact vp_in_nI (by omega) (by decide), i1, ?_⟩
  rw [ix, nI_clamp (show p * 6 + a < 2 ^ 31 by omega), hv, pr_x e he, ee]
  exact wx_put pe h4 hh hc c4 ⟨i1, nm_r (e' := upd pp p (nI (i + 1))) (by first | rw [ee] | rfl) k⟩
theorem wx_p10 {post : Int32 → SX → Prop} {p d i : Nat} {x y z : Int32} (hp : p < 6) (hd : d < 6) (hi : i < 24) (hpd : pd p = nI d) (hpp : pp p = nI i) (h0 : cO (d * 24 + i) = nI 10) (h1 : cA (d * 24 + i) = x) (h2 : cB (d * 24 + i) = y) (h3 : cC (d * 24 + i) = z) {a e h c : Nat} (ha : a < 6) (hx : x = nI a) (he : e < 16) (hv : pv (p * 6 + a) = nI e) (h4 : h < 4) (hh : qh (pr e) = nI h) (hc : qc (pr e) = nI c) (c4 : c < 4) (k : post 1 (tY, pR, cH, cP, stl, cD, vd, eK, eD, eP, stt, oC, tk, sa, sb, gK, gA, gB, cl, nC, dd, dp, dl, dm, pt, cO, cA, cB, cC, cx, cu, st, pd, upd pp p (nI (i + 1)), pa, pf, pv, es, ew, qh, upd qc (pr e) (nI (c + 1)), upd qk (pr e * 4 + (h + c) % 4) 3, upd qv (pr e * 4 + (h + c) % 4) (y), ou, cm)) : wpX_perform post (tY, pR, cH, cP, stl, cD, vd, eK, eD, eP, stt, oC, tk, sa, sb, gK, gA, gB, cl, nC, dd, dp, dl, dm, pt, cO, cA, cB, cC, cx, cu, st, pd, pp, pa, pf, pv, es, ew, qh, qc, qk, qv, ou, cm) (nI p) := by
  have pe : pr e < 16 := pr_lt he (by decide)
  have i1 : vp_in (nI p) 6 := vp_in_nI hp (by decide)
  have ee : (nI p).toNatClampNeg = p := nI_clamp (by omega)
  have i2 : vp_in (nI (d * 24 + i)) 144 := vp_in_nI (by omega) (by decide)
  have e2 : (nI (d * 24 + i)).toNatClampNeg = d * 24 + i := nI_clamp (by omega)
  unfold wpX_perform
  refine ⟨i1, nm_r (e' := nI d) (by rw [ee]; exact hpd) ⟨i1, nm_r (e' := nI i) (by rw [ee]; exact hpp) (nm_r (e' := nI (d * 24 + i)) (by rw [nu_m24, nI_add]) ⟨i2, nm_r (e' := x) (by rw [e2]; exact h1) ⟨i2, nm_r (e' := y) (by rw [e2]; exact h2) (nm_r (nI_1 i) ⟨i2, nm_r (e' := nI 10) (by rw [e2]; exact h0) ?_⟩)⟩⟩)⟩⟩
  refine br_f (by decide) (br_f (by decide) (br_f (by decide) (br_f (by decide) (br_f (by decide) (br_f (by decide) (br_f (by decide) (br_f (by decide) (br_f (by decide) (br_f (by decide) (br_f (by decide) (br_f (by decide) (br_t rfl ?_))))))))))))
  rw [hx]
  have ix : nI p * 6 + nI a = nI (p * 6 + a) := vx
  refine ⟨by rw [ix]; exact vp_in_nI (by omega) (by decide), ?_⟩
  rw [ix, nI_clamp (show p * 6 + a < 2 ^ 31 by omega), hv, pr_x e he]
  exact wx_put pe h4 hh hc c4 ⟨i1, nm_r (e' := upd pp p (nI (i + 1))) (by first | rw [ee] | rfl) k⟩
theorem wx_p7 {post : Int32 → SX → Prop} {p d i : Nat} {x y z : Int32} (hp : p < 6) (hd : d < 6) (hi : i < 24) (hpd : pd p = nI d) (hpp : pp p = nI i) (h0 : cO (d * 24 + i) = nI 7) (h1 : cA (d * 24 + i) = x) (h2 : cB (d * 24 + i) = y) (h3 : cC (d * 24 + i) = z) {a e h c : Nat} (ha : a < 6) (hx : x = nI a) (he : e < 16) (hv : pv (p * 6 + a) = nI e) (h4 : h < 4) (hh : qh e = nI h) (hc : qc e = nI (c + 1)) (k : post 1 (tY, pR, cH, cP, stl, cD, vd, eK, eD, eP, stt, oC, tk, sa, sb, gK, gA, gB, cl, nC, dd, dp, dl, dm, pt, cO, cA, cB, cC, cx, cu, st, pd, upd pp p (nI (i + 1)), upd pa p (qv (e * 4 + h)), pf, pv, es, ew, upd qh e (nI ((h + 1) % 4)), upd qc e (nI c), qk, qv, ou, cm)) : wpX_perform post (tY, pR, cH, cP, stl, cD, vd, eK, eD, eP, stt, oC, tk, sa, sb, gK, gA, gB, cl, nC, dd, dp, dl, dm, pt, cO, cA, cB, cC, cx, cu, st, pd, pp, pa, pf, pv, es, ew, qh, qc, qk, qv, ou, cm) (nI p) := by
  have i1 : vp_in (nI p) 6 := vp_in_nI hp (by decide)
  have ee : (nI p).toNatClampNeg = p := nI_clamp (by omega)
  have i2 : vp_in (nI (d * 24 + i)) 144 := vp_in_nI (by omega) (by decide)
  have e2 : (nI (d * 24 + i)).toNatClampNeg = d * 24 + i := nI_clamp (by omega)
  unfold wpX_perform
  refine ⟨i1, nm_r (e' := nI d) (by rw [ee]; exact hpd) ⟨i1, nm_r (e' := nI i) (by rw [ee]; exact hpp) (nm_r (e' := nI (d * 24 + i)) (by rw [nu_m24, nI_add]) ⟨i2, nm_r (e' := x) (by rw [e2]; exact h1) ⟨i2, nm_r (e' := y) (by rw [e2]; exact h2) (nm_r (nI_1 i) ⟨i2, nm_r (e' := nI 7) (by rw [e2]; exact h0) ?_⟩)⟩⟩)⟩⟩
  refine br_f (by decide) (br_f (by decide) (br_f (by decide) (br_f (by decide) (br_f (by decide) (br_f (by decide) (br_f (by decide) (br_f (by decide) (br_f (by decide) (br_t rfl ?_)))))))))
  rw [hx]
  have ix : nI p * 6 + nI a = nI (p * 6 + a) := vx
  refine ⟨by rw [ix]; exact vp_in_nI (by omega) (by decide), ?_⟩
  rw [ix, nI_clamp (show p * 6 + a < 2 ^ 31 by omega), hv]
  exact wx_get he h4 hh hc ⟨i1, nm_r (e' := upd pa p (qv (e * 4 + h))) (by rw [ee]) ⟨i1, nm_r (e' := upd pp p (nI (i + 1))) (by rw [ee]) k⟩⟩
theorem wx_p11 {post : Int32 → SX → Prop} {p d i : Nat} {x y z : Int32} (hp : p < 6) (hd : d < 6) (hi : i < 24) (hpd : pd p = nI d) (hpp : pp p = nI i) (h0 : cO (d * 24 + i) = nI 11) (h1 : cA (d * 24 + i) = x) (h2 : cB (d * 24 + i) = y) (h3 : cC (d * 24 + i) = z) {n l : Nat} (D : df T dp dl dm cO cA cB cC d n l) (hl : i + 1 ≤ l) {a e h c : Nat} (ha : a < 6) (hx : x = nI a) (he : e < 16) (hv : pv (p * 6 + a) = nI e) (h4 : h < 4) (hh : qh e = nI h) (hc : qc e = nI (c + 1)) (k0 : qv (e * 4 + h) = 0 → post 1 (tY, pR, cH, cP, stl, cD, vd, eK, eD, eP, stt, oC, tk, sa, sb, gK, gA, gB, cl, nC, dd, dp, dl, dm, pt, cO, cA, cB, cC, cx, cu, st, pd, upd pp p (nI (i + 1)), pa, pf, pv, es, ew, upd qh e (nI ((h + 1) % 4)), upd qc e (nI c), qk, qv, ou, cm)) (k1 : ¬ qv (e * 4 + h) = 0 → post 1 (tY, pR, cH, cP, stl, cD, vd, eK, eD, eP, stt, oC, tk, sa, sb, gK, gA, gB, cl, nC, dd, dp, dl, dm, pt, cO, cA, cB, cC, cx, cu, st, pd, upd pp p (nI (tm_x (dop cO d) l (i + 1))), pa, pf, pv, es, ew, upd qh e (nI ((h + 1) % 4)), upd qc e (nI c), qk, qv, ou, cm)) : wpX_perform post (tY, pR, cH, cP, stl, cD, vd, eK, eD, eP, stt, oC, tk, sa, sb, gK, gA, gB, cl, nC, dd, dp, dl, dm, pt, cO, cA, cB, cC, cx, cu, st, pd, pp, pa, pf, pv, es, ew, qh, qc, qk, qv, ou, cm) (nI p) := by
  have i1 : vp_in (nI p) 6 := vp_in_nI hp (by decide)
  have ee : (nI p).toNatClampNeg = p := nI_clamp (by omega)
  have i2 : vp_in (nI (d * 24 + i)) 144 := vp_in_nI (by omega) (by decide)
  have e2 : (nI (d * 24 + i)).toNatClampNeg = d * 24 + i := nI_clamp (by omega)
  unfold wpX_perform
  refine ⟨i1, nm_r (e' := nI d) (by rw [ee]; exact hpd) ⟨i1, nm_r (e' := nI i) (by rw [ee]; exact hpp) (nm_r (e' := nI (d * 24 + i)) (by rw [nu_m24, nI_add]) ⟨i2, nm_r (e' := x) (by rw [e2]; exact h1) ⟨i2, nm_r (e' := y) (by rw [e2]; exact h2) (nm_r (nI_1 i) ⟨i2, nm_r (e' := nI 11) (by rw [e2]; exact h0) ?_⟩)⟩⟩)⟩⟩
  refine br_f (by decide) (br_f (by decide) (br_f (by decide) (br_f (by decide) (br_f (by decide) (br_f (by decide) (br_f (by decide) (br_f (by decide) (br_f (by decide) (br_f (by decide) (br_f (by decide) (br_f (by decide) (br_f (by decide) (br_t rfl ?_)))))))))))))
  rw [hx]
  have ix : nI p * 6 + nI a = nI (p * 6 + a) := vx
  refine ⟨by rw [ix]; exact vp_in_nI (by omega) (by decide), ?_⟩
  rw [ix, nI_clamp (show p * 6 + a < 2 ^ 31 by omega), hv]
  refine wx_get he h4 hh hc (br_c (fun q => ⟨i1, nm_r (e' := upd pp p (nI (i + 1))) (by rw [ee]) (k0 q)⟩) (fun q => ?_))
  rw [nI_1]
  exact wx_termEnd hd D hl ⟨i1, nm_r (e' := upd pp p (nI (tm_x (dop cO d) l (i + 1)))) (by rw [ee]) (k1 q)⟩
theorem wx_p8 {post : Int32 → SX → Prop} {p d i : Nat} {x y z : Int32} (hp : p < 6) (hd : d < 6) (hi : i < 24) (hpd : pd p = nI d) (hpp : pp p = nI i) (h0 : cO (d * 24 + i) = nI 8) (h1 : cA (d * 24 + i) = x) (h2 : cB (d * 24 + i) = y) (h3 : cC (d * 24 + i) = z) {a b e f h c : Nat} (ha : a < 6) (hb : b < 6) (hx : x = nI a) (hy : y = nI b) (he : e < 16) (hf : f < 16) (hv : pv (p * 6 + a) = nI e) (hw : pv (p * 6 + b) = nI f) (h4 : h < 4) (hh : qh (pr e) = nI h) (hc : qc (pr e) = nI c) (c4 : c < 4) (k : post 1 (tY, pR, cH, cP, stl, cD, vd, eK, eD, eP, stt, oC, tk, sa, sb, gK, gA, gB, cl, nC, dd, dp, dl, dm, pt, cO, cA, cB, cC, cx, cu, st, pd, upd pp p (nI (i + 1)), pa, pf, upd pv (p * 6 + b) (-1), upd es f 2, upd ew f (nI (pr e)), qh, upd qc (pr e) (nI (c + 1)), upd qk (pr e * 4 + (h + c) % 4) 2, upd qv (pr e * 4 + (h + c) % 4) (nI f), ou, cm)) : wpX_perform post (tY, pR, cH, cP, stl, cD, vd, eK, eD, eP, stt, oC, tk, sa, sb, gK, gA, gB, cl, nC, dd, dp, dl, dm, pt, cO, cA, cB, cC, cx, cu, st, pd, pp, pa, pf, pv, es, ew, qh, qc, qk, qv, ou, cm) (nI p) := by
  have pe : pr e < 16 := pr_lt he (by decide)
  have i1 : vp_in (nI p) 6 := vp_in_nI hp (by decide)
  have ee : (nI p).toNatClampNeg = p := nI_clamp (by omega)
  have i2 : vp_in (nI (d * 24 + i)) 144 := vp_in_nI (by omega) (by decide)
  have e2 : (nI (d * 24 + i)).toNatClampNeg = d * 24 + i := nI_clamp (by omega)
  unfold wpX_perform
  refine ⟨i1, nm_r (e' := nI d) (by rw [ee]; exact hpd) ⟨i1, nm_r (e' := nI i) (by rw [ee]; exact hpp) (nm_r (e' := nI (d * 24 + i)) (by rw [nu_m24, nI_add]) ⟨i2, nm_r (e' := x) (by rw [e2]; exact h1) ⟨i2, nm_r (e' := y) (by rw [e2]; exact h2) (nm_r (nI_1 i) ⟨i2, nm_r (e' := nI 8) (by rw [e2]; exact h0) ?_⟩)⟩⟩)⟩⟩
  refine br_f (by decide) (br_f (by decide) (br_f (by decide) (br_f (by decide) (br_f (by decide) (br_f (by decide) (br_f (by decide) (br_f (by decide) (br_f (by decide) (br_f (by decide) (br_t rfl ?_))))))))))
  rw [hx, hy]
  have ix : nI p * 6 + nI a = nI (p * 6 + a) := vx
  have iy : nI p * 6 + nI b = nI (p * 6 + b) := vx
  have cx' : (nI (p * 6 + a)).toNatClampNeg = p * 6 + a := nI_clamp (by omega)
  have cy' : (nI (p * 6 + b)).toNatClampNeg = p * 6 + b := nI_clamp (by omega)
  have cf : (nI f).toNatClampNeg = f := nI_clamp (by omega)
  have i3 : vp_in (nI (p * 6 + b)) 36 := vp_in_nI (by omega) (by decide)
  have i4 : vp_in (nI f) 16 := vp_in_nI hf (by decide)
  unfold wpX_give
  refine ⟨by rw [ix]; exact vp_in_nI (by omega) (by decide), nm_r (e' := nI (pr e)) (by rw [ix, cx', hv, pr_x e he]) ⟨by rw [iy]; exact i3, nm_r (e' := nI f) (by rw [iy, cy', hw]) ?_⟩⟩
  refine wx_put pe h4 hh hc c4 ⟨by rw [iy]; exact i3, nm_r (e' := upd pv (p * 6 + b) (-1)) (by rw [iy, cy']) ⟨i4, nm_r (e' := upd es f 2) (by rw [cf]) ⟨i4, nm_r (e' := upd ew f (nI (pr e))) (by rw [cf]) ⟨i1, nm_r (e' := upd pp p (nI (i + 1))) (by rw [ee]) k⟩⟩⟩⟩
theorem wx_p9 {post : Int32 → SX → Prop} {p d i : Nat} {x y z : Int32} (hp : p < 6) (hd : d < 6) (hi : i < 24) (hpd : pd p = nI d) (hpp : pp p = nI i) (h0 : cO (d * 24 + i) = nI 9) (h1 : cA (d * 24 + i) = x) (h2 : cB (d * 24 + i) = y) (h3 : cC (d * 24 + i) = z) {a b e f h c : Nat} (ha : a < 6) (hb : b < 6) (hx : x = nI a) (hy : y = nI b) (he : e < 16) (hf : f < 16) (hv : pv (p * 6 + a) = nI e) (h4 : h < 4) (hh : qh e = nI h) (hc : qc e = nI (c + 1)) (hq : qv (e * 4 + h) = nI f) (k : post 1 (tY, pR, cH, cP, stl, cD, vd, eK, eD, eP, stt, oC, tk, sa, sb, gK, gA, gB, cl, nC, dd, dp, dl, dm, pt, cO, cA, cB, cC, cx, cu, st, pd, upd pp p (nI (i + 1)), pa, pf, upd pv (p * 6 + b) (nI f), upd es f 1, upd ew f (nI p), upd qh e (nI ((h + 1) % 4)), upd qc e (nI c), qk, qv, ou, cm)) : wpX_perform post (tY, pR, cH, cP, stl, cD, vd, eK, eD, eP, stt, oC, tk, sa, sb, gK, gA, gB, cl, nC, dd, dp, dl, dm, pt, cO, cA, cB, cC, cx, cu, st, pd, pp, pa, pf, pv, es, ew, qh, qc, qk, qv, ou, cm) (nI p) := by
  have i1 : vp_in (nI p) 6 := vp_in_nI hp (by decide)
  have ee : (nI p).toNatClampNeg = p := nI_clamp (by omega)
  have i2 : vp_in (nI (d * 24 + i)) 144 := vp_in_nI (by omega) (by decide)
  have e2 : (nI (d * 24 + i)).toNatClampNeg = d * 24 + i := nI_clamp (by omega)
  unfold wpX_perform
  refine ⟨i1, nm_r (e' := nI d) (by rw [ee]; exact hpd) ⟨i1, nm_r (e' := nI i) (by rw [ee]; exact hpp) (nm_r (e' := nI (d * 24 + i)) (by rw [nu_m24, nI_add]) ⟨i2, nm_r (e' := x) (by rw [e2]; exact h1) ⟨i2, nm_r (e' := y) (by rw [e2]; exact h2) (nm_r (nI_1 i) ⟨i2, nm_r (e' := nI 9) (by rw [e2]; exact h0) ?_⟩)⟩⟩)⟩⟩
  refine br_f (by decide) (br_f (by decide) (br_f (by decide) (br_f (by decide) (br_f (by decide) (br_f (by decide) (br_f (by decide) (br_f (by decide) (br_f (by decide) (br_f (by decide) (br_f (by decide) (br_t rfl ?_)))))))))))
  rw [hx, hy]
  have ix : nI p * 6 + nI a = nI (p * 6 + a) := vx
  unfold wpX_take
  refine ⟨by rw [ix]; exact vp_in_nI (by omega) (by decide), ?_⟩
  rw [ix, nI_clamp (show p * 6 + a < 2 ^ 31 by omega), hv]
  refine wx_get he h4 hh hc ?_
  rw [hq]
  exact wx_hold hp hb hf ⟨i1, nm_r (e' := upd pp p (nI (i + 1))) (by rw [ee]) k⟩
theorem wx_p12 {post : Int32 → SX → Prop} {p d i : Nat} {x y z : Int32} (hp : p < 6) (hd : d < 6) (hi : i < 24) (hpd : pd p = nI d) (hpp : pp p = nI i) (h0 : cO (d * 24 + i) = nI 12) (h1 : cA (d * 24 + i) = x) (h2 : cB (d * 24 + i) = y) (h3 : cC (d * 24 + i) = z) {a e : Nat} (ha : a < 6) (hx : x = nI a) (he : e < 16) (hv : pv (p * 6 + a) = nI e) (k1 : es (pr e) = 3 → post 1 (tY, pR, cH, cP, stl, cD, vd, eK, eD, eP, stt, oC, tk, sa, sb, gK, gA, gB, cl, nC, dd, dp, dl, dm, pt, cO, cA, cB, cC, cx, cu, st, pd, upd pp p (nI (i + 1)), pa, pf, upd pv (p * 6 + a) (-1), upd (upd (upd es e 3) e 0) (pr e) 0, upd ew e (-1), qh, qc, qk, qv, ou, cm)) (k0 : ¬ es (pr e) = 3 → post 1 (tY, pR, cH, cP, stl, cD, vd, eK, eD, eP, stt, oC, tk, sa, sb, gK, gA, gB, cl, nC, dd, dp, dl, dm, pt, cO, cA, cB, cC, cx, cu, st, pd, upd pp p (nI (i + 1)), pa, pf, upd pv (p * 6 + a) (-1), upd es e 3, upd ew e (-1), qh, qc, qk, qv, ou, cm)) : wpX_perform post (tY, pR, cH, cP, stl, cD, vd, eK, eD, eP, stt, oC, tk, sa, sb, gK, gA, gB, cl, nC, dd, dp, dl, dm, pt, cO, cA, cB, cC, cx, cu, st, pd, pp, pa, pf, pv, es, ew, qh, qc, qk, qv, ou, cm) (nI p) := by
  have pe : pr e < 16 := pr_lt he (by decide)
  have i1 : vp_in (nI p) 6 := vp_in_nI hp (by decide)
  have ee : (nI p).toNatClampNeg = p := nI_clamp (by omega)
  have i2 : vp_in (nI (d * 24 + i)) 144 := vp_in_nI (by omega) (by decide)
  have e2 : (nI (d * 24 + i)).toNatClampNeg = d * 24 + i := nI_clamp (by omega)
  unfold wpX_perform
  refine ⟨i1, nm_r (e' := nI d) (by rw [ee]; exact hpd) ⟨i1, nm_r (e' := nI i) (by rw [ee]; exact hpp) (nm_r (e' := nI (d * 24 + i)) (by rw [nu_m24, nI_add]) ⟨i2, nm_r (e' := x) (by rw [e2]; exact h1) ⟨i2, nm_r (e' := y) (by rw [e2]; exact h2) (nm_r (nI_1 i) ⟨i2, nm_r (e' := nI 12) (by rw [e2]; exact h0) ?_⟩)⟩⟩)⟩⟩
  refine br_f (by decide) (br_f (by decide) (br_f (by decide) (br_f (by decide) (br_f (by decide) (br_f (by decide) (br_f (by decide) (br_f (by decide) (br_f (by decide) (br_f (by decide) (br_f (by decide) (br_f (by decide) (br_f (by decide) (br_f (by decide) (br_t rfl ?_))))))))))))))
  rw [hx]
  have ix : nI p * 6 + nI a = nI (p * 6 + a) := vx
  have cx' : (nI (p * 6 + a)).toNatClampNeg = p * 6 + a := nI_clamp (by omega)
  have cf : (nI e).toNatClampNeg = e := nI_clamp (by omega)
  have cp : (nI (pr e)).toNatClampNeg = pr e := nI_clamp (by omega)
  have i3 : vp_in (nI (p * 6 + a)) 36 := vp_in_nI (by omega) (by decide)
  have i4 : vp_in (nI e) 16 := vp_in_nI he (by decide)
  have i5 : vp_in (nI (pr e)) 16 := vp_in_nI pe (by decide)
  unfold wpX_close
  refine ⟨by rw [ix]; exact i3, nm_r (e' := nI e) (by rw [ix, cx', hv]) ⟨by rw [ix]; exact i3, nm_r (e' := upd pv (p * 6 + a) (-1)) (by rw [ix, cx']) ⟨i4, nm_r (e' := upd es e 3) (by rw [cf]) ⟨i4, nm_r (e' := upd ew e (-1)) (by rw [cf]) ?_⟩⟩⟩⟩
  rw [pr_x e he, cp, cf, pk_un (pr_ne e)]
  exact ⟨i5, br_c (fun q => ⟨i4, nm_e ⟨i5, nm_e ⟨i1, nm_r (e' := upd pp p (nI (i + 1))) (by rw [ee]) (k1 q)⟩⟩⟩) (fun q => ⟨i1, nm_r (e' := upd pp p (nI (i + 1))) (by rw [ee]) (k0 q)⟩)⟩
theorem wx_p14 {post : Int32 → SX → Prop} {p d i : Nat} {x y z : Int32} (hp : p < 6) (hd : d < 6) (hi : i < 24) (hpd : pd p = nI d) (hpp : pp p = nI i) (h0 : cO (d * 24 + i) = nI 14) (h1 : cA (d * 24 + i) = x) (h2 : cB (d * 24 + i) = y) (h3 : cC (d * 24 + i) = z) {a b c : Nat} (ha : a < 6) (hb : b < 6) (hx : x = nI a) (hy : y = nI b) (hC : C ≤ 8) (c1 : c < C) (c2 : es (2 * c) = 0) (c3 : ∀ j, j < c → ¬ es (2 * j) = 0) (k : post 1 (tY, pR, nI C, cP, stl, cD, vd, eK, eD, eP, stt, oC, tk, sa, sb, gK, gA, gB, cl, nC, dd, dp, dl, dm, pt, cO, cA, cB, cC, cx, cu, st, pd, upd pp p (nI (i + 1)), pa, pf, upd (upd pv (p * 6 + a) (nI (2 * c))) (p * 6 + b) (nI (2 * c + 1)), upd (upd es (2 * c) 1) (2 * c + 1) 1, upd (upd ew (2 * c) (nI p)) (2 * c + 1) (nI p), upd (upd qh (2 * c) 0) (2 * c + 1) 0, upd (upd qc (2 * c) 0) (2 * c + 1) 0, qk, qv, ou, cm)) : wpX_perform post (tY, pR, nI C, cP, stl, cD, vd, eK, eD, eP, stt, oC, tk, sa, sb, gK, gA, gB, cl, nC, dd, dp, dl, dm, pt, cO, cA, cB, cC, cx, cu, st, pd, pp, pa, pf, pv, es, ew, qh, qc, qk, qv, ou, cm) (nI p) := by
  have i1 : vp_in (nI p) 6 := vp_in_nI hp (by decide)
  have ee : (nI p).toNatClampNeg = p := nI_clamp (by omega)
  have i2 : vp_in (nI (d * 24 + i)) 144 := vp_in_nI (by omega) (by decide)
  have e2 : (nI (d * 24 + i)).toNatClampNeg = d * 24 + i := nI_clamp (by omega)
  unfold wpX_perform
  refine ⟨i1, nm_r (e' := nI d) (by rw [ee]; exact hpd) ⟨i1, nm_r (e' := nI i) (by rw [ee]; exact hpp) (nm_r (e' := nI (d * 24 + i)) (by rw [nu_m24, nI_add]) ⟨i2, nm_r (e' := x) (by rw [e2]; exact h1) ⟨i2, nm_r (e' := y) (by rw [e2]; exact h2) (nm_r (nI_1 i) ⟨i2, nm_r (e' := nI 14) (by rw [e2]; exact h0) ?_⟩)⟩⟩)⟩⟩
  refine br_f (by decide) (br_f (by decide) (br_f (by decide) (br_f (by decide) (br_f (by decide) (br_f (by decide) (br_f (by decide) (br_f (by decide) (br_f (by decide) (br_f (by decide) (br_f (by decide) (br_f (by decide) (br_f (by decide) (br_f (by decide) (br_f (by decide) (br_f (by decide) (br_t rfl ?_))))))))))))))))
  rw [hx, hy]
  unfold wpX_open
  refine wx_freeChan hC (fun c' a1 a2 a3 => ?_) (fun w => absurd c2 (w c c1))
  have := least_u (F := fun c => es (2 * c) = 0) a2 a3 c2 c3
  subst this
  have e0 : 2 * nI c' = nI (2 * c') := nu_2m c'
  have e1 : nI (2 * c') + 1 = nI (2 * c' + 1) := nI_1 _
  refine br_t (nI_pos' (by omega)) ?_
  rw [e0, e1]
  refine wx_emptyQ (by omega) ?_
  refine wx_hold hp ha (by omega) ?_
  exact wx_hold hp hb (by omega) ⟨i1, nm_r (e' := upd pp p (nI (i + 1))) (by rw [ee]) k⟩
/-! Y: the front message taken, with the arrays left named -/
theorem wy_takeE {e : Nat} {m : MG} {S : List MG} (hA : ms_A L mT mK mV) (h64 : L.length ≤ 64) (hL : ∀ m, m ∈ L → m.1 < 16) (he : e < 16) (hq : ms_q e L = m :: S) :
    ∃ mT' mK' mV' : Nat → Int32, ms_A (ms_r e L) mT' mK' mV' ∧ ∀ {tY pR cH cP cD vd eK eD eP stt oC : Int32} {tk sa sb eq du nx dd dp dl dm pt cd ct st yd yp ya yf hel ou eu ev : Nat → Int32} (post : Int32 → SY → Prop), post m.2.2 (tY, pR, cH, cP, cD, vd, eK, eD, eP, stt, nI (ms_r e L).length, oC, tk, sa, sb, eq, du, nx, dd, dp, dl, dm, pt, cd, ct, st, yd, yp, ya, yf, hel, mT', mK', mV', ou, eu, ev) → wpY_take post (tY, pR, cH, cP, cD, vd, eK, eD, eP, stt, nI L.length, oC, tk, sa, sb, eq, du, nx, dd, dp, dl, dm, pt, cd, ct, st, yd, yp, ya, yf, hel, mT, mK, mV, ou, eu, ev) (nI e) := by
  rcases ms_f_spec e 0 L 0 0 (Nat.zero_le _) with ⟨_, z⟩ | ⟨j', m', z1, z2, z3⟩
  · rw [hq] at z; cases z
  · rw [hq] at z3
    have e1 : m = m' := Option.some.inj z3
    subst e1
    have jl : j' < L.length := by
      rcases Nat.lt_or_ge j' L.length with l | l
      · exact l
      · rw [List.getElem?_eq_none l] at z2; cases z2
    have er := ms_f_er e L 0 j' z1
    have ln := ms_r_len L hq
    obtain ⟨a1, a2, a3⟩ := hA j' m z2
    refine ⟨sh mT j' (L.length - 1), sh mK j' (L.length - 1), sh mV j' (L.length - 1), fun q x hx => ?_, fun post k => ?_⟩
    · rw [← er, List.getElem?_eraseIdx] at hx
      unfold sh
      by_cases l : q < j'
      · rw [if_pos l] at hx
        rw [if_neg (by omega), if_neg (by omega), if_neg (by omega)]
        exact hA q x hx
      · rw [if_neg l] at hx
        have ql : q + 1 < L.length := by
          rcases Nat.lt_or_ge (q + 1) L.length with g | g
          · exact g
          · rw [List.getElem?_eq_none g] at hx; cases hx
        rw [if_pos (by omega), if_pos (by omega), if_pos (by omega)]
        exact hA (q + 1) x hx
    · unfold wpY_take
      refine wy_find (i := 0) hA h64 hL he (by omega) (fun hn => by rw [z1] at hn; cases hn) (fun j hj => ?_)
      have e2 : j' = j := by rw [z1, Nat.zero_add] at hj; exact Option.some.inj hj
      subst e2
      refine ⟨vp_in_nI (by omega) (by decide), nm_r (e' := m.2.2) (by rw [nI_clamp (by omega)]; exact a3) ⟨L.length + 1, ?_⟩⟩
      rw [show (ms_r e L).length = L.length - 1 by omega] at k
      have := wy_tk17 (post := post) (x3 := m.2.2) (mT := mT) (mK := mK) (mV := mV) h64 jl k (L.length + 1) j' (Nat.le_refl _) jl (by omega)
      rw [sh_0, sh_0, sh_0] at this
      exact this
/-! both: instructions on channels -/
theorem wb_p6 (hS : zs P C Q O) (hT : zt T K A B tk sa sb cl stl) (hD : zd T dd dp dl dm pt cO cA cB cC cd cD) (hV : zv T K A B dd dp dl dm pt cO cA cB cC vd eK eD eP cx cu ct) (hR : zr T P C Q L stt dd dp dl dm cO cA cB cC st pd pp pa pf pv yd yp ya yf hel es ew qh qc qk qv mT mK mV) {p d i n l : Nat} (hp : p < P) (h1 : st p = 1) (hs : ¬ stt = 0) (hd : d < 6) (hdd : ¬ dd d = 0) (D : df T dp dl dm cO cA cB cC d n l) (hm : dm d = 0) (hpd : pd p = nI d) (hpp : pp p = nI i) (hi : i < l) (ho : dop cO d i = 6) (G : ∃ a e, a < 6 ∧ cA (d * 24 + i) = nI a ∧ e < 2 * C ∧ hel (p * 6 + a) = nI e ∧ (es (pr e) = 1 ∨ es (pr e) = 2) ∧ (ms_q (pr e) L).length < Q) : pfo (fun post => wpX_perform post (nI T, nI P, nI C, nI Q, stl, cD, vd, eK, eD, eP, stt, nI O, tk, sa, sb, gK, gA, gB, cl, nC, dd, dp, dl, dm, pt, cO, cA, cB, cC, cx, cu, st, pd, pp, pa, pf, pv, es, ew, qh, qc, qk, qv, ou, cm) (nI p)) (fun post => wpY_perform post (nI T, nI P, nI C, nI Q, cD, vd, eK, eD, eP, stt, nI L.length, nI O, tk, sa, sb, eq, du, nx, dd, dp, dl, dm, pt, cd, ct, st, yd, yp, ya, yf, hel, mT, mK, mV, ou, eu, ev) (nI p)) 1 := by
  obtain ⟨s1, s2, s3, s4, s5, s6, s7⟩ := hS
  have hS : zs P C Q O := ⟨s1, s2, s3, s4, s5, s6, s7⟩
  have l24 := D.2.2.2.1
  have hM := D.2.2.2.2.2.1
  have hE := full0 D hm
  obtain ⟨oo, ok⟩ := D.2.2.2.2.2.2 i hi
  rw [ho] at oo ok
  obtain ⟨c0, c1, c2, c3⟩ := hD.2.2.2.1 (d * 24 + i) (by omega)
  obtain ⟨e1, e2, e3, e4⟩ := hR.2.2.1 p hp (by rw [h1]; exact nu_10)
  have hyd := e1.symm.trans hpd
  have hyp := e2.symm.trans hpp
  have hz := hR.1
  have E16 := hz.1.1.1
  obtain ⟨qa, qb, qc64⟩ := zc_q hz s6
  have hn := tm_full_nt hM hE hi (show ¬ (dop cO d i = 0 ∨ dop cO d i = 1) by omega)
  obtain ⟨a, e, a1, ax, g1, g2, g3, g4⟩ := G
  have pe := pr_lt g1 hz.1.1.2
  have hpv := (hz.2.2.2.1 (p * 6 + a) (by omega)).trans g2
  obtain ⟨h, h4, hh, hc, hl, hmm⟩ := hz.2.2.1 (pr e) pe
  have room := ms_room qa qb (f := pr e) (by omega) (by omega)
  have ln : (L ++ [(pr e, 1, pa p)]).length = L.length + 1 := by rw [List.length_append]; rfl
  have i1 : vp_in (nI p) 6 := vp_in_nI (by omega) (by decide)
  have ee : (nI p).toNatClampNeg = p := nI_clamp (by omega)
  have ix : nI (p * 6) + nI a = nI (p * 6 + a) := nI_add _ _
  have cx' : (nI (p * 6 + a)).toNatClampNeg = p * 6 + a := nI_clamp (by omega)
  have i3 : vp_in (nI (p * 6 + a)) 36 := vp_in_nI (by omega) (by decide)
  refine ⟨(nI T, nI P, nI C, nI Q, stl, cD, vd, eK, eD, eP, stt, nI O, tk, sa, sb, gK, gA, gB, cl, nC, dd, dp, dl, dm, pt, cO, cA, cB, cC, cx, cu, st, pd, upd pp p (nI (i + 1)), pa, pf, pv, es, ew, qh, upd qc (pr e) (nI ((ms_q (pr e) L).length + 1)), upd qk (pr e * 4 + (h + (ms_q (pr e) L).length) % 4) 1, upd qv (pr e * 4 + (h + (ms_q (pr e) L).length) % 4) (pa p), ou, cm), (nI T, nI P, nI C, nI Q, cD, vd, eK, eD, eP, stt, nI (L ++ [(pr e, 1, pa p)]).length, nI O, tk, sa, sb, eq, du, nx, dd, dp, dl, dm, pt, cd, ct, st, yd, upd yp p (nI (i + 1)), ya, yf, hel, upd mT L.length (nI (pr e)), upd mK L.length 1, upd mV L.length (pa p), ou, eu, ev), fun j => zz_in hS hT hD hV ⟨⟨re_put hz.1 pe g3 (by decide) (fun q => absurd q (by decide)), ms_A_app hz.2.1 (pr e, 1, pa p), rq_put hz.2.2.1 s6 pe h4 hh rfl g4, hz.2.2.2.1, hz.2.2.2.2⟩, zp_step hR.2 hp h1 hs hd hdd D hpd hn (fun q e => ⟨rfl, rfl⟩) e3 (fun _ _ _ _ _ => rfl)⟩, hs, fun post k => wx_p6 (by omega) hd (by omega) hpd hpp oo rfl rfl rfl a1 ax (by omega) hpv h4 hh hc (by omega) k, fun post k => wy_perf (by omega) hd (by omega) hyd hyp (by omega) (c0.trans oo) c1 c2 c3 (fun q => absurd q (by decide)) (fun _ => wy_80h (by omega) (by omega) ?_)⟩
  rw [ln] at k
  refine br_t rfl ?_
  rw [ax, ix, cx', ee, g2, pr_x e (by omega), ← e3]
  exact ⟨i3, i1, wy_put room (wy_294 (by decide) (by decide) (by decide) (by decide) (by decide) (by decide) (by decide) (by decide) k)⟩
theorem wb_p10 (hS : zs P C Q O) (hT : zt T K A B tk sa sb cl stl) (hD : zd T dd dp dl dm pt cO cA cB cC cd cD) (hV : zv T K A B dd dp dl dm pt cO cA cB cC vd eK eD eP cx cu ct) (hR : zr T P C Q L stt dd dp dl dm cO cA cB cC st pd pp pa pf pv yd yp ya yf hel es ew qh qc qk qv mT mK mV) {p d i n l : Nat} (hp : p < P) (h1 : st p = 1) (hs : ¬ stt = 0) (hd : d < 6) (hdd : ¬ dd d = 0) (D : df T dp dl dm cO cA cB cC d n l) (hm : dm d = 0) (hpd : pd p = nI d) (hpp : pp p = nI i) (hi : i < l) (ho : dop cO d i = 10) (G : ∃ a e, a < 6 ∧ cA (d * 24 + i) = nI a ∧ e < 2 * C ∧ hel (p * 6 + a) = nI e ∧ (es (pr e) = 1 ∨ es (pr e) = 2) ∧ (ms_q (pr e) L).length < Q) : pfo (fun post => wpX_perform post (nI T, nI P, nI C, nI Q, stl, cD, vd, eK, eD, eP, stt, nI O, tk, sa, sb, gK, gA, gB, cl, nC, dd, dp, dl, dm, pt, cO, cA, cB, cC, cx, cu, st, pd, pp, pa, pf, pv, es, ew, qh, qc, qk, qv, ou, cm) (nI p)) (fun post => wpY_perform post (nI T, nI P, nI C, nI Q, cD, vd, eK, eD, eP, stt, nI L.length, nI O, tk, sa, sb, eq, du, nx, dd, dp, dl, dm, pt, cd, ct, st, yd, yp, ya, yf, hel, mT, mK, mV, ou, eu, ev) (nI p)) 1 := by
  obtain ⟨s1, s2, s3, s4, s5, s6, s7⟩ := hS
  have hS : zs P C Q O := ⟨s1, s2, s3, s4, s5, s6, s7⟩
  have l24 := D.2.2.2.1
  have hM := D.2.2.2.2.2.1
  have hE := full0 D hm
  obtain ⟨oo, ok⟩ := D.2.2.2.2.2.2 i hi
  rw [ho] at oo ok
  obtain ⟨c0, c1, c2, c3⟩ := hD.2.2.2.1 (d * 24 + i) (by omega)
  obtain ⟨e1, e2, e3, e4⟩ := hR.2.2.1 p hp (by rw [h1]; exact nu_10)
  have hyd := e1.symm.trans hpd
  have hyp := e2.symm.trans hpp
  have hz := hR.1
  have E16 := hz.1.1.1
  obtain ⟨qa, qb, qc64⟩ := zc_q hz s6
  have hn := tm_full_nt hM hE hi (show ¬ (dop cO d i = 0 ∨ dop cO d i = 1) by omega)
  obtain ⟨a, e, a1, ax, g1, g2, g3, g4⟩ := G
  have pe := pr_lt g1 hz.1.1.2
  have hpv := (hz.2.2.2.1 (p * 6 + a) (by omega)).trans g2
  obtain ⟨h, h4, hh, hc, hl, hmm⟩ := hz.2.2.1 (pr e) pe
  have room := ms_room qa qb (f := pr e) (by omega) (by omega)
  have ln : (L ++ [(pr e, 3, cB (d * 24 + i))]).length = L.length + 1 := by rw [List.length_append]; rfl
  have i1 : vp_in (nI p) 6 := vp_in_nI (by omega) (by decide)
  have ee : (nI p).toNatClampNeg = p := nI_clamp (by omega)
  have ix : nI (p * 6) + nI a = nI (p * 6 + a) := nI_add _ _
  have cx' : (nI (p * 6 + a)).toNatClampNeg = p * 6 + a := nI_clamp (by omega)
  have i3 : vp_in (nI (p * 6 + a)) 36 := vp_in_nI (by omega) (by decide)
  refine ⟨(nI T, nI P, nI C, nI Q, stl, cD, vd, eK, eD, eP, stt, nI O, tk, sa, sb, gK, gA, gB, cl, nC, dd, dp, dl, dm, pt, cO, cA, cB, cC, cx, cu, st, pd, upd pp p (nI (i + 1)), pa, pf, pv, es, ew, qh, upd qc (pr e) (nI ((ms_q (pr e) L).length + 1)), upd qk (pr e * 4 + (h + (ms_q (pr e) L).length) % 4) 3, upd qv (pr e * 4 + (h + (ms_q (pr e) L).length) % 4) (cB (d * 24 + i)), ou, cm), (nI T, nI P, nI C, nI Q, cD, vd, eK, eD, eP, stt, nI (L ++ [(pr e, 3, cB (d * 24 + i))]).length, nI O, tk, sa, sb, eq, du, nx, dd, dp, dl, dm, pt, cd, ct, st, yd, upd yp p (nI (i + 1)), ya, yf, hel, upd mT L.length (nI (pr e)), upd mK L.length 3, upd mV L.length (cB (d * 24 + i)), ou, eu, ev), fun j => zz_in hS hT hD hV ⟨⟨re_put hz.1 pe g3 (by decide) (fun _ => ok.2.2.2.2.1 rfl), ms_A_app hz.2.1 (pr e, 3, cB (d * 24 + i)), rq_put hz.2.2.1 s6 pe h4 hh rfl g4, hz.2.2.2.1, hz.2.2.2.2⟩, zp_step hR.2 hp h1 hs hd hdd D hpd hn (fun q e => ⟨rfl, rfl⟩) e3 (fun _ _ _ _ _ => rfl)⟩, hs, fun post k => wx_p10 (by omega) hd (by omega) hpd hpp oo rfl rfl rfl a1 ax (by omega) hpv h4 hh hc (by omega) k, fun post k => wy_perf (by omega) hd (by omega) hyd hyp (by omega) (c0.trans oo) c1 c2 c3 (fun q => absurd q (by decide)) (fun _ => wy_80h (by omega) (by omega) ?_)⟩
  rw [ln] at k
  refine br_f (by decide) (br_f (by decide) (br_f (by decide) (br_f (by decide) (br_t rfl ?_))))
  rw [ax, ix, cx', g2, pr_x e (by omega)]
  exact ⟨i3, wy_put room (wy_423 (by decide) (by decide) (by decide) (by decide) k)⟩
theorem wb_p7 (hS : zs P C Q O) (hT : zt T K A B tk sa sb cl stl) (hD : zd T dd dp dl dm pt cO cA cB cC cd cD) (hV : zv T K A B dd dp dl dm pt cO cA cB cC vd eK eD eP cx cu ct) (hR : zr T P C Q L stt dd dp dl dm cO cA cB cC st pd pp pa pf pv yd yp ya yf hel es ew qh qc qk qv mT mK mV) {p d i n l : Nat} (hp : p < P) (h1 : st p = 1) (hs : ¬ stt = 0) (hd : d < 6) (hdd : ¬ dd d = 0) (D : df T dp dl dm cO cA cB cC d n l) (hm : dm d = 0) (hpd : pd p = nI d) (hpp : pp p = nI i) (hi : i < l) (ho : dop cO d i = 7) (G : ∃ a e m S, a < 6 ∧ cA (d * 24 + i) = nI a ∧ e < 2 * C ∧ hel (p * 6 + a) = nI e ∧ ms_q e L = m :: S ∧ m.2.1 = 1) : pfo (fun post => wpX_perform post (nI T, nI P, nI C, nI Q, stl, cD, vd, eK, eD, eP, stt, nI O, tk, sa, sb, gK, gA, gB, cl, nC, dd, dp, dl, dm, pt, cO, cA, cB, cC, cx, cu, st, pd, pp, pa, pf, pv, es, ew, qh, qc, qk, qv, ou, cm) (nI p)) (fun post => wpY_perform post (nI T, nI P, nI C, nI Q, cD, vd, eK, eD, eP, stt, nI L.length, nI O, tk, sa, sb, eq, du, nx, dd, dp, dl, dm, pt, cd, ct, st, yd, yp, ya, yf, hel, mT, mK, mV, ou, eu, ev) (nI p)) 1 := by
  obtain ⟨s1, s2, s3, s4, s5, s6, s7⟩ := hS
  have hS : zs P C Q O := ⟨s1, s2, s3, s4, s5, s6, s7⟩
  have l24 := D.2.2.2.1
  have hM := D.2.2.2.2.2.1
  have hE := full0 D hm
  obtain ⟨oo, ok⟩ := D.2.2.2.2.2.2 i hi
  rw [ho] at oo ok
  obtain ⟨c0, c1, c2, c3⟩ := hD.2.2.2.1 (d * 24 + i) (by omega)
  obtain ⟨e1, e2, e3, e4⟩ := hR.2.2.1 p hp (by rw [h1]; exact nu_10)
  have hyd := e1.symm.trans hpd
  have hyp := e2.symm.trans hpp
  have hz := hR.1
  have E16 := hz.1.1.1
  obtain ⟨qa, qb, qc64⟩ := zc_q hz s6
  have hn := tm_full_nt hM hE hi (show ¬ (dop cO d i = 0 ∨ dop cO d i = 1) by omega)
  obtain ⟨a, e, m, S, a1, ax, g1, g2, g3, g4⟩ := G
  have pi : e < 16 := by omega
  have hpv := (hz.2.2.2.1 (p * 6 + a) (by omega)).trans g2
  obtain ⟨h, h4, hh, hc, hl, hmm⟩ := hz.2.2.1 e g1
  rw [g3, List.length_cons] at hc
  have hq0 := (hmm 0 m (by rw [g3]; rfl)).2
  rw [Nat.add_zero, Nat.mod_eq_of_lt h4] at hq0
  obtain ⟨mT', mK', mV', hA', HT⟩ := wy_takeE hz.2.1 qc64 qa pi g3
  have QG := rq_get (c := S.length) hz.2.2.1 g1 h4 hh g3 rfl
  have i1 : vp_in (nI p) 6 := vp_in_nI (by omega) (by decide)
  have ee : (nI p).toNatClampNeg = p := nI_clamp (by omega)
  have ix : nI (p * 6) + nI a = nI (p * 6 + a) := nI_add _ _
  have cx' : (nI (p * 6 + a)).toNatClampNeg = p * 6 + a := nI_clamp (by omega)
  have i3 : vp_in (nI (p * 6 + a)) 36 := vp_in_nI (by omega) (by decide)
  have RG := re_get hz.1 g3 (by rw [g4]; decide)
  have ZG := zp_step hR.2 hp h1 hs hd hdd D hpd hn (pa' := upd pa p m.2.2) (ya' := upd ya p m.2.2) (hel' := hel) (fun q e => ⟨pk_un e, pk_un e⟩) (by rw [pk_us, pk_us]) (fun _ _ _ _ _ => rfl)
  refine ⟨(nI T, nI P, nI C, nI Q, stl, cD, vd, eK, eD, eP, stt, nI O, tk, sa, sb, gK, gA, gB, cl, nC, dd, dp, dl, dm, pt, cO, cA, cB, cC, cx, cu, st, pd, upd pp p (nI (i + 1)), upd pa p m.2.2, pf, pv, es, ew, upd qh e (nI ((h + 1) % 4)), upd qc e (nI S.length), qk, qv, ou, cm), (nI T, nI P, nI C, nI Q, cD, vd, eK, eD, eP, stt, nI (ms_r e L).length, nI O, tk, sa, sb, eq, du, nx, dd, dp, dl, dm, pt, cd, ct, st, yd, upd yp p (nI (i + 1)), upd ya p m.2.2, yf, hel, mT', mK', mV', ou, eu, ev), fun j => zz_in hS hT hD hV ⟨⟨RG, hA', QG, hz.2.2.2.1, hz.2.2.2.2⟩, ZG⟩, hs, fun post k => wx_p7 (by omega) hd (by omega) hpd hpp oo rfl rfl rfl a1 ax (by omega) hpv h4 hh hc (by rw [hq0]; exact k), fun post k => wy_perf (by omega) hd (by omega) hyd hyp (by omega) (c0.trans oo) c1 c2 c3 (fun q => absurd q (by decide)) (fun _ => wy_80h (by omega) (by omega) ?_)⟩
  refine br_f (by decide) (br_t rfl ?_)
  rw [ax, ix, cx', g2]
  exact ⟨i3, HT _ ⟨i1, nm_r (e' := upd ya p m.2.2) (by rw [ee]) (wy_321 (by decide) (by decide) (by decide) (by decide) (by decide) (by decide) (by decide) k)⟩⟩
theorem wb_p11 (hS : zs P C Q O) (hT : zt T K A B tk sa sb cl stl) (hD : zd T dd dp dl dm pt cO cA cB cC cd cD) (hV : zv T K A B dd dp dl dm pt cO cA cB cC vd eK eD eP cx cu ct) (hR : zr T P C Q L stt dd dp dl dm cO cA cB cC st pd pp pa pf pv yd yp ya yf hel es ew qh qc qk qv mT mK mV) {p d i n l : Nat} (hp : p < P) (h1 : st p = 1) (hs : ¬ stt = 0) (hd : d < 6) (hdd : ¬ dd d = 0) (D : df T dp dl dm cO cA cB cC d n l) (hm : dm d = 0) (hpd : pd p = nI d) (hpp : pp p = nI i) (hi : i < l) (ho : dop cO d i = 11) (G : ∃ a e m S, a < 6 ∧ cA (d * 24 + i) = nI a ∧ e < 2 * C ∧ hel (p * 6 + a) = nI e ∧ ms_q e L = m :: S ∧ m.2.1 = 3) : pfo (fun post => wpX_perform post (nI T, nI P, nI C, nI Q, stl, cD, vd, eK, eD, eP, stt, nI O, tk, sa, sb, gK, gA, gB, cl, nC, dd, dp, dl, dm, pt, cO, cA, cB, cC, cx, cu, st, pd, pp, pa, pf, pv, es, ew, qh, qc, qk, qv, ou, cm) (nI p)) (fun post => wpY_perform post (nI T, nI P, nI C, nI Q, cD, vd, eK, eD, eP, stt, nI L.length, nI O, tk, sa, sb, eq, du, nx, dd, dp, dl, dm, pt, cd, ct, st, yd, yp, ya, yf, hel, mT, mK, mV, ou, eu, ev) (nI p)) 1 := by
  obtain ⟨s1, s2, s3, s4, s5, s6, s7⟩ := hS
  have hS : zs P C Q O := ⟨s1, s2, s3, s4, s5, s6, s7⟩
  have l24 := D.2.2.2.1
  have hM := D.2.2.2.2.2.1
  have hE := full0 D hm
  obtain ⟨oo, ok⟩ := D.2.2.2.2.2.2 i hi
  rw [ho] at oo ok
  obtain ⟨c0, c1, c2, c3⟩ := hD.2.2.2.1 (d * 24 + i) (by omega)
  obtain ⟨e1, e2, e3, e4⟩ := hR.2.2.1 p hp (by rw [h1]; exact nu_10)
  have hyd := e1.symm.trans hpd
  have hyp := e2.symm.trans hpp
  have hz := hR.1
  have E16 := hz.1.1.1
  obtain ⟨qa, qb, qc64⟩ := zc_q hz s6
  have hn := tm_full_nt hM hE hi (show ¬ (dop cO d i = 0 ∨ dop cO d i = 1) by omega)
  obtain ⟨a, e, m, S, a1, ax, g1, g2, g3, g4⟩ := G
  have pi : e < 16 := by omega
  have hpv := (hz.2.2.2.1 (p * 6 + a) (by omega)).trans g2
  obtain ⟨h, h4, hh, hc, hl, hmm⟩ := hz.2.2.1 e g1
  rw [g3, List.length_cons] at hc
  have hq0 := (hmm 0 m (by rw [g3]; rfl)).2
  rw [Nat.add_zero, Nat.mod_eq_of_lt h4] at hq0
  obtain ⟨mT', mK', mV', hA', HT⟩ := wy_takeE hz.2.1 qc64 qa pi g3
  have QG := rq_get (c := S.length) hz.2.2.1 g1 h4 hh g3 rfl
  have i1 : vp_in (nI p) 6 := vp_in_nI (by omega) (by decide)
  have ee : (nI p).toNatClampNeg = p := nI_clamp (by omega)
  have ix : nI (p * 6) + nI a = nI (p * 6 + a) := nI_add _ _
  have cx' : (nI (p * 6 + a)).toNatClampNeg = p * 6 + a := nI_clamp (by omega)
  have i3 : vp_in (nI (p * 6 + a)) 36 := vp_in_nI (by omega) (by decide)
  have RG := re_get hz.1 g3 (by rw [g4]; decide)
  have mL : m ∈ L := (ms_q_mem L (by rw [g3]; exact List.mem_cons_self)).1
  have m01 := (hz.1.2.2.1 m mL).2.1 g4
  obtain ⟨te, t1, t2⟩ := tm_full_frk hM hE hi (Or.inr ho)
  have Z := fun i' (hi' : i' < l) => zp_step hR.2 hp h1 hs hd hdd D hpd hi' (pa' := pa) (ya' := ya) (hel' := hel) (fun q e => ⟨rfl, rfl⟩) e3 (fun _ _ _ _ _ => rfl)
  by_cases z0 : m.2.2 = 0
  · refine ⟨(nI T, nI P, nI C, nI Q, stl, cD, vd, eK, eD, eP, stt, nI O, tk, sa, sb, gK, gA, gB, cl, nC, dd, dp, dl, dm, pt, cO, cA, cB, cC, cx, cu, st, pd, upd pp p (nI (i + 1)), pa, pf, pv, es, ew, upd qh e (nI ((h + 1) % 4)), upd qc e (nI S.length), qk, qv, ou, cm), (nI T, nI P, nI C, nI Q, cD, vd, eK, eD, eP, stt, nI (ms_r e L).length, nI O, tk, sa, sb, eq, du, nx, dd, dp, dl, dm, pt, cd, ct, st, yd, upd yp p (nI (i + 1)), ya, yf, hel, mT', mK', mV', ou, eu, ev), fun j => zz_in hS hT hD hV ⟨⟨RG, hA', QG, hz.2.2.2.1, hz.2.2.2.2⟩, Z (i + 1) hn⟩, hs, fun post k => wx_p11 (by omega) hd (by omega) hpd hpp oo rfl rfl rfl D (by omega) a1 ax (by omega) hpv h4 hh hc (fun _ => k) (fun q => absurd (hq0.trans z0) q), fun post k => wy_perf (by omega) hd (by omega) hyd hyp (by omega) (c0.trans oo) c1 c2 c3 (fun q => absurd q (by decide)) (fun _ => wy_80h (by omega) (by omega) ?_)⟩
    refine br_f (by decide) (br_f (by decide) (br_f (by decide) (br_f (by decide) (br_f (by decide) (br_t rfl ?_)))))
    rw [ax, ix, cx', g2]
    exact ⟨i3, HT _ (br_f (by rw [z0]; decide) (wy_462 (by decide) (by decide) (by decide) k))⟩
  · have z1 : m.2.2 = 1 := m01.resolve_left z0
    refine ⟨(nI T, nI P, nI C, nI Q, stl, cD, vd, eK, eD, eP, stt, nI O, tk, sa, sb, gK, gA, gB, cl, nC, dd, dp, dl, dm, pt, cO, cA, cB, cC, cx, cu, st, pd, upd pp p (nI te), pa, pf, pv, es, ew, upd qh e (nI ((h + 1) % 4)), upd qc e (nI S.length), qk, qv, ou, cm), (nI T, nI P, nI C, nI Q, cD, vd, eK, eD, eP, stt, nI (ms_r e L).length, nI O, tk, sa, sb, eq, du, nx, dd, dp, dl, dm, pt, cd, ct, st, yd, upd yp p (nI te), ya, yf, hel, mT', mK', mV', ou, eu, ev), fun j => zz_in hS hT hD hV ⟨⟨RG, hA', QG, hz.2.2.2.1, hz.2.2.2.2⟩, Z te t2⟩, hs, fun post k => wx_p11 (by omega) hd (by omega) hpd hpp oo rfl rfl rfl D (by omega) a1 ax (by omega) hpv h4 hh hc (fun q => absurd (hq0.symm.trans q) z0) (fun _ => by rw [tm_x_T t1]; exact k), fun post k => wy_perf (by omega) hd (by omega) hyd hyp (by omega) (c0.trans oo) c1 c2 c3 (fun q => absurd q (by decide)) (fun _ => wy_80h (by omega) (by omega) ?_)⟩
    refine br_f (by decide) (br_f (by decide) (br_f (by decide) (br_f (by decide) (br_f (by decide) (br_t rfl ?_)))))
    rw [ax, ix, cx', g2]
    refine ⟨i3, HT _ (br_t z1 ?_)⟩
    rw [nI_1]
    exact wy_termEnd hd D hD.2.2.2.1 (by omega) ⟨i1, nm_r (e' := upd yp p (nI te)) (by rw [ee, tm_e_T t1, up_up]) (wy_462 (by decide) (by decide) (by decide) k)⟩
theorem wb_p8 (hS : zs P C Q O) (hT : zt T K A B tk sa sb cl stl) (hD : zd T dd dp dl dm pt cO cA cB cC cd cD) (hV : zv T K A B dd dp dl dm pt cO cA cB cC vd eK eD eP cx cu ct) (hR : zr T P C Q L stt dd dp dl dm cO cA cB cC st pd pp pa pf pv yd yp ya yf hel es ew qh qc qk qv mT mK mV) {p d i n l : Nat} (hp : p < P) (h1 : st p = 1) (hs : ¬ stt = 0) (hd : d < 6) (hdd : ¬ dd d = 0) (D : df T dp dl dm cO cA cB cC d n l) (hm : dm d = 0) (hpd : pd p = nI d) (hpp : pp p = nI i) (hi : i < l) (ho : dop cO d i = 8) (G : ∃ a b e f, a < 6 ∧ b < 6 ∧ cA (d * 24 + i) = nI a ∧ cB (d * 24 + i) = nI b ∧ ¬ a = b ∧ e < 2 * C ∧ f < 2 * C ∧ hel (p * 6 + a) = nI e ∧ hel (p * 6 + b) = nI f ∧ (es (pr e) = 1 ∨ es (pr e) = 2) ∧ (ms_q (pr e) L).length < Q) : pfo (fun post => wpX_perform post (nI T, nI P, nI C, nI Q, stl, cD, vd, eK, eD, eP, stt, nI O, tk, sa, sb, gK, gA, gB, cl, nC, dd, dp, dl, dm, pt, cO, cA, cB, cC, cx, cu, st, pd, pp, pa, pf, pv, es, ew, qh, qc, qk, qv, ou, cm) (nI p)) (fun post => wpY_perform post (nI T, nI P, nI C, nI Q, cD, vd, eK, eD, eP, stt, nI L.length, nI O, tk, sa, sb, eq, du, nx, dd, dp, dl, dm, pt, cd, ct, st, yd, yp, ya, yf, hel, mT, mK, mV, ou, eu, ev) (nI p)) 1 := by
  obtain ⟨s1, s2, s3, s4, s5, s6, s7⟩ := hS
  have hS : zs P C Q O := ⟨s1, s2, s3, s4, s5, s6, s7⟩
  have l24 := D.2.2.2.1
  have hM := D.2.2.2.2.2.1
  have hE := full0 D hm
  obtain ⟨oo, ok⟩ := D.2.2.2.2.2.2 i hi
  rw [ho] at oo ok
  obtain ⟨c0, c1, c2, c3⟩ := hD.2.2.2.1 (d * 24 + i) (by omega)
  obtain ⟨e1, e2, e3, e4⟩ := hR.2.2.1 p hp (by rw [h1]; exact nu_10)
  have hyd := e1.symm.trans hpd
  have hyp := e2.symm.trans hpp
  have hz := hR.1
  have E16 := hz.1.1.1
  obtain ⟨qa, qb, qc64⟩ := zc_q hz s6
  have hn := tm_full_nt hM hE hi (show ¬ (dop cO d i = 0 ∨ dop cO d i = 1) by omega)
  obtain ⟨a, b, e, f, a1, b1, ax, bx, ab, g1, f1, g2, f2, g3, g4⟩ := G
  have pe := pr_lt g1 hz.1.1.2
  have hpv := (hz.2.2.2.1 (p * 6 + a) (by omega)).trans g2
  have hpw := (hz.2.2.2.1 (p * 6 + b) (by omega)).trans f2
  obtain ⟨h, h4, hh, hc, hl, hmm⟩ := hz.2.2.1 (pr e) pe
  have room := ms_room qa qb (f := pr e) (by omega) (by omega)
  have ln : (L ++ [(pr e, 2, nI f)]).length = L.length + 1 := by rw [List.length_append]; rfl
  have i1 : vp_in (nI p) 6 := vp_in_nI (by omega) (by decide)
  have ee : (nI p).toNatClampNeg = p := nI_clamp (by omega)
  have ix : nI (p * 6) + nI a = nI (p * 6 + a) := nI_add _ _
  have cx' : (nI (p * 6 + a)).toNatClampNeg = p * 6 + a := nI_clamp (by omega)
  have i3 : vp_in (nI (p * 6 + a)) 36 := vp_in_nI (by omega) (by decide)
  have iy : nI (p * 6) + nI b = nI (p * 6 + b) := nI_add _ _
  have cy' : (nI (p * 6 + b)).toNatClampNeg = p * 6 + b := nI_clamp (by omega)
  have i4 : vp_in (nI (p * 6 + b)) 36 := vp_in_nI (by omega) (by decide)
  refine ⟨(nI T, nI P, nI C, nI Q, stl, cD, vd, eK, eD, eP, stt, nI O, tk, sa, sb, gK, gA, gB, cl, nC, dd, dp, dl, dm, pt, cO, cA, cB, cC, cx, cu, st, pd, upd pp p (nI (i + 1)), pa, pf, upd pv (p * 6 + b) (-1), upd es f 2, upd ew f (nI (pr e)), qh, upd qc (pr e) (nI ((ms_q (pr e) L).length + 1)), upd qk (pr e * 4 + (h + (ms_q (pr e) L).length) % 4) 2, upd qv (pr e * 4 + (h + (ms_q (pr e) L).length) % 4) (nI f), ou, cm), (nI T, nI P, nI C, nI Q, cD, vd, eK, eD, eP, stt, nI (L ++ [(pr e, 2, nI f)]).length, nI O, tk, sa, sb, eq, du, nx, dd, dp, dl, dm, pt, cd, ct, st, yd, upd yp p (nI (i + 1)), ya, yf, upd hel (p * 6 + b) (-1), upd mT L.length (nI (pr e)), upd mK L.length 2, upd mV L.length (nI f), ou, eu, ev), fun j => zz_in hS hT hD hV ⟨⟨re_give hz.1 (by omega) f2 (by omega) pe g3, ms_A_app hz.2.1 (pr e, 2, nI f), rq_put hz.2.2.1 s6 pe h4 hh rfl g4, pv_u hz.2.2.2.1, hel_u (by omega) hz.2.2.2.2⟩, zp_step hR.2 hp h1 hs hd hdd D hpd hn (fun q e => ⟨rfl, rfl⟩) e3 (hel_o b1)⟩, hs, fun post k => wx_p8 (by omega) hd (by omega) hpd hpp oo rfl rfl rfl a1 b1 ax bx (by omega) (by omega) hpv hpw h4 hh hc (by omega) k, fun post k => wy_perf (by omega) hd (by omega) hyd hyp (by omega) (c0.trans oo) c1 c2 c3 (fun q => absurd q (by decide)) (fun _ => wy_80h (by omega) (by omega) ?_)⟩
  rw [ln] at k
  refine br_f (by decide) (br_f (by decide) (br_t rfl ?_))
  rw [ax, bx, ix, iy, cx', cy', g2, f2, pr_x e (by omega)]
  exact ⟨i3, i4, wy_put room ⟨i4, nm_e (wy_366 (by decide) (by decide) (by decide) (by decide) (by decide) (by decide) k)⟩⟩
theorem wb_p9 (hS : zs P C Q O) (hT : zt T K A B tk sa sb cl stl) (hD : zd T dd dp dl dm pt cO cA cB cC cd cD) (hV : zv T K A B dd dp dl dm pt cO cA cB cC vd eK eD eP cx cu ct) (hR : zr T P C Q L stt dd dp dl dm cO cA cB cC st pd pp pa pf pv yd yp ya yf hel es ew qh qc qk qv mT mK mV) {p d i n l : Nat} (hp : p < P) (h1 : st p = 1) (hs : ¬ stt = 0) (hd : d < 6) (hdd : ¬ dd d = 0) (D : df T dp dl dm cO cA cB cC d n l) (hm : dm d = 0) (hpd : pd p = nI d) (hpp : pp p = nI i) (hi : i < l) (ho : dop cO d i = 9) (G : ∃ a b e m S, a < 6 ∧ b < 6 ∧ cA (d * 24 + i) = nI a ∧ cB (d * 24 + i) = nI b ∧ hel (p * 6 + b) = -1 ∧ e < 2 * C ∧ hel (p * 6 + a) = nI e ∧ ms_q e L = m :: S ∧ m.2.1 = 2) : pfo (fun post => wpX_perform post (nI T, nI P, nI C, nI Q, stl, cD, vd, eK, eD, eP, stt, nI O, tk, sa, sb, gK, gA, gB, cl, nC, dd, dp, dl, dm, pt, cO, cA, cB, cC, cx, cu, st, pd, pp, pa, pf, pv, es, ew, qh, qc, qk, qv, ou, cm) (nI p)) (fun post => wpY_perform post (nI T, nI P, nI C, nI Q, cD, vd, eK, eD, eP, stt, nI L.length, nI O, tk, sa, sb, eq, du, nx, dd, dp, dl, dm, pt, cd, ct, st, yd, yp, ya, yf, hel, mT, mK, mV, ou, eu, ev) (nI p)) 1 := by
  obtain ⟨s1, s2, s3, s4, s5, s6, s7⟩ := hS
  have hS : zs P C Q O := ⟨s1, s2, s3, s4, s5, s6, s7⟩
  have l24 := D.2.2.2.1
  have hM := D.2.2.2.2.2.1
  have hE := full0 D hm
  obtain ⟨oo, ok⟩ := D.2.2.2.2.2.2 i hi
  rw [ho] at oo ok
  obtain ⟨c0, c1, c2, c3⟩ := hD.2.2.2.1 (d * 24 + i) (by omega)
  obtain ⟨e1, e2, e3, e4⟩ := hR.2.2.1 p hp (by rw [h1]; exact nu_10)
  have hyd := e1.symm.trans hpd
  have hyp := e2.symm.trans hpp
  have hz := hR.1
  have E16 := hz.1.1.1
  obtain ⟨qa, qb, qc64⟩ := zc_q hz s6
  have hn := tm_full_nt hM hE hi (show ¬ (dop cO d i = 0 ∨ dop cO d i = 1) by omega)
  obtain ⟨a, b, e, m, S, a1, b1, ax, bx, hb0, g1, g2, g3, g4⟩ := G
  have pi : e < 16 := by omega
  have hpv := (hz.2.2.2.1 (p * 6 + a) (by omega)).trans g2
  obtain ⟨h, h4, hh, hc, hl, hmm⟩ := hz.2.2.1 e g1
  rw [g3, List.length_cons] at hc
  have hq0 := (hmm 0 m (by rw [g3]; rfl)).2
  rw [Nat.add_zero, Nat.mod_eq_of_lt h4] at hq0
  obtain ⟨mT', mK', mV', hA', HT⟩ := wy_takeE hz.2.1 qc64 qa pi g3
  have QG := rq_get (c := S.length) hz.2.2.1 g1 h4 hh g3 rfl
  have i1 : vp_in (nI p) 6 := vp_in_nI (by omega) (by decide)
  have ee : (nI p).toNatClampNeg = p := nI_clamp (by omega)
  have ix : nI (p * 6) + nI a = nI (p * 6 + a) := nI_add _ _
  have cx' : (nI (p * 6 + a)).toNatClampNeg = p * 6 + a := nI_clamp (by omega)
  have i3 : vp_in (nI (p * 6 + a)) 36 := vp_in_nI (by omega) (by decide)
  have iy : nI (p * 6) + nI b = nI (p * 6 + b) := nI_add _ _
  have cy' : (nI (p * 6 + b)).toNatClampNeg = p * 6 + b := nI_clamp (by omega)
  have i4 : vp_in (nI (p * 6 + b)) 36 := vp_in_nI (by omega) (by decide)
  have mL : m ∈ L := (ms_q_mem L (by rw [g3]; exact List.mem_cons_self)).1
  obtain ⟨f, f1, f2, _⟩ := re_of_ms hz.1 mL g4
  have RT := re_take hz.1 g3 g4 f2 (by omega) (show p * 6 + b < 36 by omega) hb0
  rw [show (p * 6 + b) / 6 = p by omega] at RT
  refine ⟨(nI T, nI P, nI C, nI Q, stl, cD, vd, eK, eD, eP, stt, nI O, tk, sa, sb, gK, gA, gB, cl, nC, dd, dp, dl, dm, pt, cO, cA, cB, cC, cx, cu, st, pd, upd pp p (nI (i + 1)), pa, pf, upd pv (p * 6 + b) (nI f), upd es f 1, upd ew f (nI p), upd qh e (nI ((h + 1) % 4)), upd qc e (nI S.length), qk, qv, ou, cm), (nI T, nI P, nI C, nI Q, cD, vd, eK, eD, eP, stt, nI (ms_r e L).length, nI O, tk, sa, sb, eq, du, nx, dd, dp, dl, dm, pt, cd, ct, st, yd, upd yp p (nI (i + 1)), ya, yf, upd hel (p * 6 + b) (nI f), mT', mK', mV', ou, eu, ev), fun j => zz_in hS hT hD hV ⟨⟨RT, hA', QG, pv_u hz.2.2.2.1, hel_u (by omega) hz.2.2.2.2⟩, zp_step hR.2 hp h1 hs hd hdd D hpd hn (fun q e => ⟨rfl, rfl⟩) e3 (hel_o b1)⟩, hs, fun post k => wx_p9 (by omega) hd (by omega) hpd hpp oo rfl rfl rfl a1 b1 ax bx (by omega) (by omega) hpv h4 hh hc (hq0.trans f2) k, fun post k => wy_perf (by omega) hd (by omega) hyd hyp (by omega) (c0.trans oo) c1 c2 c3 (fun q => absurd q (by decide)) (fun _ => wy_80h (by omega) (by omega) ?_)⟩
  refine br_f (by decide) (br_f (by decide) (br_f (by decide) (br_t rfl ?_)))
  rw [ax, bx, ix, iy, cx', cy', g2]
  exact ⟨i3, HT _ ⟨i4, nm_r (e' := upd hel (p * 6 + b) (nI f)) (by rw [f2]) (wy_397 (by decide) (by decide) (by decide) (by decide) (by decide) k)⟩⟩
theorem wb_p12 (hS : zs P C Q O) (hT : zt T K A B tk sa sb cl stl) (hD : zd T dd dp dl dm pt cO cA cB cC cd cD) (hV : zv T K A B dd dp dl dm pt cO cA cB cC vd eK eD eP cx cu ct) (hR : zr T P C Q L stt dd dp dl dm cO cA cB cC st pd pp pa pf pv yd yp ya yf hel es ew qh qc qk qv mT mK mV) {p d i n l : Nat} (hp : p < P) (h1 : st p = 1) (hs : ¬ stt = 0) (hd : d < 6) (hdd : ¬ dd d = 0) (D : df T dp dl dm cO cA cB cC d n l) (hm : dm d = 0) (hpd : pd p = nI d) (hpp : pp p = nI i) (hi : i < l) (ho : dop cO d i = 12) (G : ∃ a e, a < 6 ∧ cA (d * 24 + i) = nI a ∧ e < 2 * C ∧ hel (p * 6 + a) = nI e ∧ ms_q e L = []) : pfo (fun post => wpX_perform post (nI T, nI P, nI C, nI Q, stl, cD, vd, eK, eD, eP, stt, nI O, tk, sa, sb, gK, gA, gB, cl, nC, dd, dp, dl, dm, pt, cO, cA, cB, cC, cx, cu, st, pd, pp, pa, pf, pv, es, ew, qh, qc, qk, qv, ou, cm) (nI p)) (fun post => wpY_perform post (nI T, nI P, nI C, nI Q, cD, vd, eK, eD, eP, stt, nI L.length, nI O, tk, sa, sb, eq, du, nx, dd, dp, dl, dm, pt, cd, ct, st, yd, yp, ya, yf, hel, mT, mK, mV, ou, eu, ev) (nI p)) 1 := by
  obtain ⟨s1, s2, s3, s4, s5, s6, s7⟩ := hS
  have hS : zs P C Q O := ⟨s1, s2, s3, s4, s5, s6, s7⟩
  have l24 := D.2.2.2.1
  have hM := D.2.2.2.2.2.1
  have hE := full0 D hm
  obtain ⟨oo, ok⟩ := D.2.2.2.2.2.2 i hi
  rw [ho] at oo ok
  obtain ⟨c0, c1, c2, c3⟩ := hD.2.2.2.1 (d * 24 + i) (by omega)
  obtain ⟨e1, e2, e3, e4⟩ := hR.2.2.1 p hp (by rw [h1]; exact nu_10)
  have hyd := e1.symm.trans hpd
  have hyp := e2.symm.trans hpp
  have hz := hR.1
  have E16 := hz.1.1.1
  obtain ⟨qa, qb, qc64⟩ := zc_q hz s6
  have hn := tm_full_nt hM hE hi (show ¬ (dop cO d i = 0 ∨ dop cO d i = 1) by omega)
  obtain ⟨a, e, a1, ax, g1, g2, g3⟩ := G
  have hpv := (hz.2.2.2.1 (p * 6 + a) (by omega)).trans g2
  have i1 : vp_in (nI p) 6 := vp_in_nI (by omega) (by decide)
  have ee : (nI p).toNatClampNeg = p := nI_clamp (by omega)
  have ix : nI (p * 6) + nI a = nI (p * 6 + a) := nI_add _ _
  have cx' : (nI (p * 6 + a)).toNatClampNeg = p * 6 + a := nI_clamp (by omega)
  have i3 : vp_in (nI (p * 6 + a)) 36 := vp_in_nI (by omega) (by decide)
  have ZG := zp_step hR.2 hp h1 hs hd hdd D hpd hn (pa' := pa) (ya' := ya) (hel' := upd hel (p * 6 + a) (-1)) (fun q e => ⟨rfl, rfl⟩) e3 (hel_o a1)
  have HY : ∀ post : SY → Prop, post (nI T, nI P, nI C, nI Q, cD, vd, eK, eD, eP, stt, nI L.length, nI O, tk, sa, sb, eq, du, nx, dd, dp, dl, dm, pt, cd, ct, st, yd, upd yp p (nI (i + 1)), ya, yf, upd hel (p * 6 + a) (-1), mT, mK, mV, ou, eu, ev) → wpY_perform post (nI T, nI P, nI C, nI Q, cD, vd, eK, eD, eP, stt, nI L.length, nI O, tk, sa, sb, eq, du, nx, dd, dp, dl, dm, pt, cd, ct, st, yd, yp, ya, yf, hel, mT, mK, mV, ou, eu, ev) (nI p) := fun post k => by
    refine wy_perf (by omega) hd (by omega) hyd hyp (by omega) (c0.trans oo) c1 c2 c3 (fun q => absurd q (by decide)) (fun _ => wy_80h (by omega) (by omega) ?_)
    refine br_f (by decide) (br_f (by decide) (br_f (by decide) (br_f (by decide) (br_f (by decide) (br_f (by decide) (br_t rfl ?_))))))
    rw [ax, ix, cx']
    exact ⟨i3, nm_e (wy_480 (by decide) (by decide) k)⟩
  by_cases p3 : es (pr e) = 3
  · exact ⟨(nI T, nI P, nI C, nI Q, stl, cD, vd, eK, eD, eP, stt, nI O, tk, sa, sb, gK, gA, gB, cl, nC, dd, dp, dl, dm, pt, cO, cA, cB, cC, cx, cu, st, pd, upd pp p (nI (i + 1)), pa, pf, upd pv (p * 6 + a) (-1), upd (upd (upd es e 3) e 0) (pr e) 0, upd ew e (-1), qh, qc, qk, qv, ou, cm), (nI T, nI P, nI C, nI Q, cD, vd, eK, eD, eP, stt, nI L.length, nI O, tk, sa, sb, eq, du, nx, dd, dp, dl, dm, pt, cd, ct, st, yd, upd yp p (nI (i + 1)), ya, yf, upd hel (p * 6 + a) (-1), mT, mK, mV, ou, eu, ev), fun j => zz_in hS hT hD hV ⟨⟨re_close2 hz.1 (by omega) g2 (by omega) g3 p3, hz.2.1, hz.2.2.1, pv_u hz.2.2.2.1, hel_u (by omega) hz.2.2.2.2⟩, ZG⟩, hs, fun post k => wx_p12 (by omega) hd (by omega) hpd hpp oo rfl rfl rfl a1 ax (by omega) hpv (fun _ => k) (fun q => absurd p3 q), HY⟩
  · exact ⟨(nI T, nI P, nI C, nI Q, stl, cD, vd, eK, eD, eP, stt, nI O, tk, sa, sb, gK, gA, gB, cl, nC, dd, dp, dl, dm, pt, cO, cA, cB, cC, cx, cu, st, pd, upd pp p (nI (i + 1)), pa, pf, upd pv (p * 6 + a) (-1), upd es e 3, upd ew e (-1), qh, qc, qk, qv, ou, cm), (nI T, nI P, nI C, nI Q, cD, vd, eK, eD, eP, stt, nI L.length, nI O, tk, sa, sb, eq, du, nx, dd, dp, dl, dm, pt, cd, ct, st, yd, upd yp p (nI (i + 1)), ya, yf, upd hel (p * 6 + a) (-1), mT, mK, mV, ou, eu, ev), fun j => zz_in hS hT hD hV ⟨⟨re_close hz.1 (by omega) g2 (by omega) g3 p3, hz.2.1, hz.2.2.1, pv_u hz.2.2.2.1, hel_u (by omega) hz.2.2.2.2⟩, ZG⟩, hs, fun post k => wx_p12 (by omega) hd (by omega) hpd hpp oo rfl rfl rfl a1 ax (by omega) hpv (fun q => absurd q p3) (fun _ => k), HY⟩
theorem wb_p14 (hS : zs P C Q O) (hT : zt T K A B tk sa sb cl stl) (hD : zd T dd dp dl dm pt cO cA cB cC cd cD) (hV : zv T K A B dd dp dl dm pt cO cA cB cC vd eK eD eP cx cu ct) (hR : zr T P C Q L stt dd dp dl dm cO cA cB cC st pd pp pa pf pv yd yp ya yf hel es ew qh qc qk qv mT mK mV) {p d i n l : Nat} (hp : p < P) (h1 : st p = 1) (hs : ¬ stt = 0) (hd : d < 6) (hdd : ¬ dd d = 0) (D : df T dp dl dm cO cA cB cC d n l) (hm : dm d = 0) (hpd : pd p = nI d) (hpp : pp p = nI i) (hi : i < l) (ho : dop cO d i = 14) (G : ∃ a b c, a < 6 ∧ b < 6 ∧ cA (d * 24 + i) = nI a ∧ cB (d * 24 + i) = nI b ∧ ¬ a = b ∧ hel (p * 6 + a) = -1 ∧ hel (p * 6 + b) = -1 ∧ c < C ∧ es (2 * c) = 0 ∧ (∀ j, j < c → ¬ es (2 * j) = 0)) : pfo (fun post => wpX_perform post (nI T, nI P, nI C, nI Q, stl, cD, vd, eK, eD, eP, stt, nI O, tk, sa, sb, gK, gA, gB, cl, nC, dd, dp, dl, dm, pt, cO, cA, cB, cC, cx, cu, st, pd, pp, pa, pf, pv, es, ew, qh, qc, qk, qv, ou, cm) (nI p)) (fun post => wpY_perform post (nI T, nI P, nI C, nI Q, cD, vd, eK, eD, eP, stt, nI L.length, nI O, tk, sa, sb, eq, du, nx, dd, dp, dl, dm, pt, cd, ct, st, yd, yp, ya, yf, hel, mT, mK, mV, ou, eu, ev) (nI p)) 1 := by
  obtain ⟨s1, s2, s3, s4, s5, s6, s7⟩ := hS
  have hS : zs P C Q O := ⟨s1, s2, s3, s4, s5, s6, s7⟩
  have l24 := D.2.2.2.1
  have hM := D.2.2.2.2.2.1
  have hE := full0 D hm
  obtain ⟨oo, ok⟩ := D.2.2.2.2.2.2 i hi
  rw [ho] at oo ok
  obtain ⟨c0, c1, c2, c3⟩ := hD.2.2.2.1 (d * 24 + i) (by omega)
  obtain ⟨e1, e2, e3, e4⟩ := hR.2.2.1 p hp (by rw [h1]; exact nu_10)
  have hyd := e1.symm.trans hpd
  have hyp := e2.symm.trans hpp
  have hz := hR.1
  have E16 := hz.1.1.1
  obtain ⟨qa, qb, qc64⟩ := zc_q hz s6
  have hn := tm_full_nt hM hE hi (show ¬ (dop cO d i = 0 ∨ dop cO d i = 1) by omega)
  obtain ⟨a, b, c, a1, b1, ax, bx, ab, ha0, hb0, k1, k2, k3⟩ := G
  have i1 : vp_in (nI p) 6 := vp_in_nI (by omega) (by decide)
  have ee : (nI p).toNatClampNeg = p := nI_clamp (by omega)
  have ix : nI (p * 6) + nI a = nI (p * 6 + a) := nI_add _ _
  have cx' : (nI (p * 6 + a)).toNatClampNeg = p * 6 + a := nI_clamp (by omega)
  have i3 : vp_in (nI (p * 6 + a)) 36 := vp_in_nI (by omega) (by decide)
  have iy : nI (p * 6) + nI b = nI (p * 6 + b) := nI_add _ _
  have cy' : (nI (p * 6 + b)).toNatClampNeg = p * 6 + b := nI_clamp (by omega)
  have i4 : vp_in (nI (p * 6 + b)) 36 := vp_in_nI (by omega) (by decide)
  obtain ⟨fq0, fq1⟩ := re_fq hz.1 k1 k2
  have RO := re_open hz.1 (i := p * 6 + a) (j := p * 6 + b) (c := c) (by omega) (by omega) (by omega) ha0 hb0 (by omega) k2
  rw [show (p * 6 + a) / 6 = p by omega, show (p * 6 + b) / 6 = p by omega] at RO
  refine ⟨(nI T, nI P, nI C, nI Q, stl, cD, vd, eK, eD, eP, stt, nI O, tk, sa, sb, gK, gA, gB, cl, nC, dd, dp, dl, dm, pt, cO, cA, cB, cC, cx, cu, st, pd, upd pp p (nI (i + 1)), pa, pf, upd (upd pv (p * 6 + a) (nI (2 * c))) (p * 6 + b) (nI (2 * c + 1)), upd (upd es (2 * c) 1) (2 * c + 1) 1, upd (upd ew (2 * c) (nI p)) (2 * c + 1) (nI p), upd (upd qh (2 * c) 0) (2 * c + 1) 0, upd (upd qc (2 * c) 0) (2 * c + 1) 0, qk, qv, ou, cm), (nI T, nI P, nI C, nI Q, cD, vd, eK, eD, eP, stt, nI L.length, nI O, tk, sa, sb, eq, du, nx, dd, dp, dl, dm, pt, cd, ct, st, yd, upd yp p (nI (i + 1)), ya, yf, upd (upd hel (p * 6 + a) (nI (2 * c))) (p * 6 + b) (nI (2 * c + 1)), mT, mK, mV, ou, eu, ev), fun j => zz_in hS hT hD hV ⟨⟨RO, hz.2.1, rq_empty hz.2.2.1 fq0 fq1, pv_u (pv_u hz.2.2.2.1), hel_u (by omega) (hel_u (by omega) hz.2.2.2.2)⟩, zp_step hR.2 hp h1 hs hd hdd D hpd hn (fun q e => ⟨rfl, rfl⟩) e3 (fun q hq ne v hv => (hel_o b1 q hq ne v hv).trans (hel_o a1 q hq ne v hv))⟩, hs, fun post k => wx_p14 (by omega) hd (by omega) hpd hpp oo rfl rfl rfl a1 b1 ax bx s4 k1 k2 k3 k, fun post k => wy_perf (by omega) hd (by omega) hyd hyp (by omega) (c0.trans oo) c1 c2 c3 (fun q => absurd q (by decide)) (fun _ => wy_80h (by omega) (by omega) ?_)⟩
  refine br_f (by decide) (br_f (by decide) (br_f (by decide) (br_f (by decide) (br_f (by decide) (br_f (by decide) (br_f (by decide) (br_f (by decide) (br_t rfl ?_))))))))
  rw [ax, bx, ix, iy, cx', cy']
  refine wy_freeChan hz.1 hz.2.1 qc64 (fun c' u1 u2 u3 => ?_) (fun w => absurd k2 (w c k1))
  have := least_u (F := fun c => es (2 * c) = 0) u2 u3 k2 k3
  subst this
  rw [nu_2m, nI_1]
  exact ⟨i3, nm_e ⟨i4, nm_e k⟩⟩
end PF2
end
section
section PF3
variable {tY pR cH cP stl cD vd eK eD eP stt oC mC : Int32} {tk sa sb gK gA gB cl nC dd dp dl dm pt cO cA cB cC cx cu st pd pp pa pf pv es ew qh qc qk qv ou cm eq du nx cd ct yd yp ya yf hel mT mK mV eu ev : Nat → Int32}
variable {T P C Q O : Nat} {K A B : Nat → Nat} {L : List MG}
/-! the variables of p drawn together -/
def jn (h : Nat → Int32) (p : Nat) : Nat → (Nat → Int32) × Nat
  | 0 => (h, 0)
  | v + 1 => if (jn h p v).1 (p * 6 + v) < 0 then jn h p v else (upd (upd (jn h p v).1 (p * 6 + v) (-1)) (p * 6 + (jn h p v).2) ((jn h p v).1 (p * 6 + v)), (jn h p v).2 + 1)
theorem jn_le (h : Nat → Int32) (p : Nat) : ∀ v, (jn h p v).2 ≤ v := by
  intro v
  induction v with
  | zero => exact Nat.le_refl _
  | succ v ih => rw [jn]; split
                 · omega
                 · show (jn h p v).2 + 1 ≤ v + 1; omega
theorem jn_eq {p : Nat} (hp : p < P) (h : ∀ j, j < P * 6 → pv j = hel j) : ∀ v, v ≤ 6 → (∀ j, j < P * 6 → (jn pv p v).1 j = (jn hel p v).1 j) ∧ (jn pv p v).2 = (jn hel p v).2 := by
  intro v
  induction v with
  | zero => intro _; exact ⟨h, rfl⟩
  | succ v ih =>
    intro hv
    obtain ⟨a, b⟩ := ih (by omega)
    have c := a (p * 6 + v) (by omega)
    rw [jn, jn, c]
    by_cases z : (jn hel p v).1 (p * 6 + v) < 0
    · rw [if_pos z, if_pos z]; exact ⟨a, b⟩
    · rw [if_neg z, if_neg z, b]
      refine ⟨fun j hj => ?_, rfl⟩
      show upd (upd (jn pv p v).1 (p * 6 + v) (-1)) (p * 6 + (jn hel p v).2) ((jn hel p v).1 (p * 6 + v)) j = upd (upd (jn hel p v).1 (p * 6 + v) (-1)) (p * 6 + (jn hel p v).2) ((jn hel p v).1 (p * 6 + v)) j
      by_cases e1 : j = p * 6 + (jn hel p v).2
      · rw [e1, pk_us, pk_us]
      · rw [pk_un e1, pk_un e1]
        by_cases e2 : j = p * 6 + v
        · rw [e2, pk_us, pk_us]
        · rw [pk_un e2, pk_un e2]; exact a j hj
theorem jn_R {p : Nat} (hp : p < 6) (R : re_R (2 * C) hel L es ew) : ∀ v, v ≤ 6 → re_R (2 * C) (jn hel p v).1 L es ew ∧ (∀ s, (jn hel p v).2 ≤ s → s < v → (jn hel p v).1 (p * 6 + s) = -1) ∧ (∀ j, ¬ (p * 6 ≤ j ∧ j < p * 6 + 6) → (jn hel p v).1 j = hel j) := by
  have E16 := R.1.1
  intro v
  induction v with
  | zero => intro _; exact ⟨R, fun s _ h => absurd h (Nat.not_lt_zero s), fun _ _ => rfl⟩
  | succ v ih =>
    intro hv
    obtain ⟨a, b, c⟩ := ih (by omega)
    have tl := jn_le hel p v
    rw [jn]
    by_cases z : (jn hel p v).1 (p * 6 + v) < 0
    · rw [if_pos z]
      refine ⟨a, fun s h1 h2 => ?_, c⟩
      by_cases e : s = v
      · rw [e]; exact (hel_lt a (by omega)).mp z
      · exact b s h1 (by omega)
    · rw [if_neg z]
      rcases re_hd a (i := p * 6 + v) (by omega) with q | ⟨e, e1, e2⟩
      · rw [q] at z; exact absurd nu_m1lt z
      · have M := re_move a (i := p * 6 + v) (j := p * 6 + (jn hel p v).2) (e := e) (by omega) (by omega) e2 (by omega) (fun ne => b _ (Nat.le_refl _) (by omega))
        have F := re_of_hd a (i := p * 6 + v) (by omega) e2 (by omega)
        rw [up_id es F.2.1, show (p * 6 + (jn hel p v).2) / 6 = (p * 6 + v) / 6 by omega, up_id ew F.2.2.1] at M
        rw [e2]
        refine ⟨M, fun s h1 h2 => ?_, fun j hj => ?_⟩
        · show upd (upd (jn hel p v).1 (p * 6 + v) (-1)) (p * 6 + (jn hel p v).2) (nI e) (p * 6 + s) = -1
          have h1 : (jn hel p v).2 + 1 ≤ s := h1
          rw [pk_un (by omega)]
          by_cases e : s = v
          · rw [e, pk_us]
          · rw [pk_un (by omega)]; exact b s (by omega) (by omega)
        · show upd (upd (jn hel p v).1 (p * 6 + v) (-1)) (p * 6 + (jn hel p v).2) (nI e) j = hel j
          rw [pk_un (by omega), pk_un (by omega)]; exact c j hj
theorem wx_j8 {post : SX → Prop} {p : Nat} {x2 : Int32} (hp : p < 6) (k : post (tY, pR, cH, cP, stl, cD, vd, eK, eD, eP, stt, oC, tk, sa, sb, gK, gA, gB, cl, nC, dd, dp, dl, dm, pt, cO, cA, cB, cC, cx, cu, st, upd pd p x2, upd pp p 0, pa, pf, (jn pv p 6).1, es, ew, qh, qc, qk, qv, ou, cm)) : ∀ n v, v ≤ 6 → 6 < n + v → wX_jump_8 post (nI p) x2 tY pR cH cP stl cD vd eK eD eP stt oC n (nI (p * 6 + (jn pv p v).2)) (nI v) tk sa sb gK gA gB cl nC dd dp dl dm pt cO cA cB cC cx cu st pd pp pa pf ((jn pv p v).1) es ew qh qc qk qv ou cm := by
  have i1 : vp_in (nI p) 6 := vp_in_nI hp (by decide)
  have ee : (nI p).toNatClampNeg = p := nI_clamp (by omega)
  intro n
  induction n with
  | zero => intro v h1 h2; omega
  | succ n ih =>
    intro v h1 h2
    by_cases h : v = 6
    · subst h
      refine br_t (nI_le (a := 6) (b := 6) (by omega) (by decide)) ⟨i1, nm_r (e' := upd pd p x2) (by rw [ee]) ⟨i1, nm_r (e' := upd pp p 0) (by rw [ee]) k⟩⟩
    · have tl := jn_le pv p v
      have ix : nI p * 6 + nI v = nI (p * 6 + v) := vx
      have cx' : (nI (p * 6 + v)).toNatClampNeg = p * 6 + v := nI_clamp (by omega)
      have i3 : vp_in (nI (p * 6 + v)) 36 := vp_in_nI (by omega) (by decide)
      have I := ih (v + 1) (by omega) (by omega)
      rw [jn] at I
      refine br_f (nI_ge (b := 6) (by omega) (by decide)) ?_
      rw [ix, cx']
      refine ⟨i3, nm_e (br_c (fun z => nm_r (nI_1 v) ?_) (fun z => ⟨i3, nm_e ⟨vp_in_nI (by omega) (by decide), nm_r (e' := upd (upd (jn pv p v).1 (p * 6 + v) (-1)) (p * 6 + (jn pv p v).2) ((jn pv p v).1 (p * 6 + v))) (by rw [nI_clamp (by omega)]) (nm_r (nI_1 _) (nm_r (nI_1 v) ?_))⟩⟩))⟩
      · rw [if_pos z] at I; exact I
      · rw [if_neg z] at I; exact I
theorem wy_j89 {post : SY → Prop} {p : Nat} {x2 x3 x6 x7 x8 x9 : Int32} (hp : p < 6) (hn : ∀ v, v < 6 → (jn hel p v).1 (p * 6 + v) < 0 → (jn hel p v).1 (p * 6 + v) = -1) (k : wY_perform_160 post (nI p) x2 x3 (nI (p * 6)) x6 x7 x8 x9 tY pR cH cP cD vd eK eD eP stt mC oC tk sa sb eq du nx dd dp dl dm pt cd ct st (upd yd p x7) (upd yp p 0) ya yf ((jn hel p 6).1) mT mK mV ou eu ev) : ∀ n v, v ≤ 6 → 6 < n + v → wY_perform_89 post (nI p) x2 x3 (nI (p * 6)) x6 x7 x8 x9 tY pR cH cP cD vd eK eD eP stt mC oC n (nI (jn hel p v).2) (nI v) tk sa sb eq du nx dd dp dl dm pt cd ct st yd yp ya yf ((jn hel p v).1) mT mK mV ou eu ev := by
  have i1 : vp_in (nI p) 6 := vp_in_nI hp (by decide)
  have ee : (nI p).toNatClampNeg = p := nI_clamp (by omega)
  intro n
  induction n with
  | zero => intro v h1 h2; omega
  | succ n ih =>
    intro v h1 h2
    by_cases h : v = 6
    · subst h
      refine br_t (nI_le (a := 6) (b := 6) (by omega) (by decide)) ⟨i1, nm_r (e' := upd yd p x7) (by rw [ee]) ⟨i1, nm_r (e' := upd yp p 0) (by rw [ee]) k⟩⟩
    · have tl := jn_le hel p v
      have ix : nI (p * 6) + nI v = nI (p * 6 + v) := nI_add _ _
      have cx' : (nI (p * 6 + v)).toNatClampNeg = p * 6 + v := nI_clamp (by omega)
      have i3 : vp_in (nI (p * 6 + v)) 36 := vp_in_nI (by omega) (by decide)
      have iy : nI (p * 6) + nI (jn hel p v).2 = nI (p * 6 + (jn hel p v).2) := nI_add _ _
      have I := ih (v + 1) (by omega) (by omega)
      rw [jn] at I
      refine br_f (nI_ge (b := 6) (by omega) (by decide)) ?_
      rw [ix, cx', iy]
      refine ⟨i3, nm_e ⟨i3, nm_e (br_c (fun z => nm_r (nI_1 v) ?_) (fun z => ⟨vp_in_nI (by omega) (by decide), nm_r (e' := upd (upd (jn hel p v).1 (p * 6 + v) (-1)) (p * 6 + (jn hel p v).2) ((jn hel p v).1 (p * 6 + v))) (by rw [nI_clamp (by omega)]) (nm_r (nI_1 _) (nm_r (nI_1 v) ?_))⟩))⟩⟩
      · rw [if_pos z] at I
        rw [up_id _ (hn v (by omega) z)]; exact I
      · rw [if_neg z] at I; exact I
/-- process p jumps to the head of another definition -/
theorem zp_jump {p d n l : Nat} {hel' : Nat → Int32} (Z : zp T P stt dd dp dl dm cO cA cB cC st pd pp pa pf yd yp ya yf hel) (hp : p < P) (h1 : st p = 1) (hs : ¬ stt = 0) (hd : d < 6) (hdd : ¬ dd d = 0) (D : df T dp dl dm cO cA cB cC d n l) (hi : 0 < l) (hh : ∀ q, q < P → q ≠ p → ∀ v, v < 6 → hel' (q * 6 + v) = hel (q * 6 + v)) :
    zp T P stt dd dp dl dm cO cA cB cC st (upd pd p (nI d)) (upd pp p 0) pa pf (upd yd p (nI d)) (upd yp p 0) ya yf hel' := by
  obtain ⟨z1, z2, z3, z4⟩ := Z
  refine ⟨z1, fun q hq hn => ?_, fun q hq h0 v hv => ?_, fun _ => ⟨(z4 hs).1, fun q hq h => ?_⟩⟩
  · obtain ⟨a1, a2, a3, a4⟩ := z2 q hq hn
    by_cases e : q = p
    · subst e; exact ⟨by rw [pk_us, pk_us], by rw [pk_us, pk_us], a3, a4⟩
    · exact ⟨by rw [pk_un e, pk_un e]; exact a1, by rw [pk_un e, pk_un e]; exact a2, a3, a4⟩
  · have e : q ≠ p := fun e => by rw [e, h1] at h0; exact nu_10 h0
    rw [hh q hq e v hv]; exact z3 q hq h0 v hv
  · by_cases e : q = p
    · subst e
      exact ⟨d, 0, n, l, hd, hdd, D, (z4 hs).1 d hd hdd, pk_us, pk_us, hi⟩
    · rw [pk_un e, pk_un e]; exact (z4 hs).2 q hq h
theorem wx_p1 {post : Int32 → SX → Prop} {p d i : Nat} {x y z : Int32} (hp : p < 6) (hd : d < 6) (hi : i < 24) (hpd : pd p = nI d) (hpp : pp p = nI i) (h0 : cO (d * 24 + i) = nI 1) (h1 : cA (d * 24 + i) = x) (h2 : cB (d * 24 + i) = y) (h3 : cC (d * 24 + i) = z) (k : post 1 (tY, pR, cH, cP, stl, cD, vd, eK, eD, eP, stt, oC, tk, sa, sb, gK, gA, gB, cl, nC, dd, dp, dl, dm, pt, cO, cA, cB, cC, cx, cu, st, upd pd p x, upd pp p 0, pa, pf, (jn pv p 6).1, es, ew, qh, qc, qk, qv, ou, cm)) : wpX_perform post (tY, pR, cH, cP, stl, cD, vd, eK, eD, eP, stt, oC, tk, sa, sb, gK, gA, gB, cl, nC, dd, dp, dl, dm, pt, cO, cA, cB, cC, cx, cu, st, pd, pp, pa, pf, pv, es, ew, qh, qc, qk, qv, ou, cm) (nI p) := by
  have i1 : vp_in (nI p) 6 := vp_in_nI hp (by decide)
  have ee : (nI p).toNatClampNeg = p := nI_clamp (by omega)
  have i2 : vp_in (nI (d * 24 + i)) 144 := vp_in_nI (by omega) (by decide)
  have e2 : (nI (d * 24 + i)).toNatClampNeg = d * 24 + i := nI_clamp (by omega)
  unfold wpX_perform
  refine ⟨i1, nm_r (e' := nI d) (by rw [ee]; exact hpd) ⟨i1, nm_r (e' := nI i) (by rw [ee]; exact hpp) (nm_r (e' := nI (d * 24 + i)) (by rw [nu_m24, nI_add]) ⟨i2, nm_r (e' := x) (by rw [e2]; exact h1) ⟨i2, nm_r (e' := y) (by rw [e2]; exact h2) (nm_r (nI_1 i) ⟨i2, nm_r (e' := nI 1) (by rw [e2]; exact h0) ?_⟩)⟩⟩)⟩⟩
  refine br_f (by decide) (br_f (by decide) (br_f (by decide) (br_t rfl ?_)))
  unfold wpX_jump
  refine nm_r (nu_m6 p) ⟨7, ?_⟩
  exact wx_j8 hp k 7 0 (by omega) (by omega)
theorem wb_p1 (hS : zs P C Q O) (hT : zt T K A B tk sa sb cl stl) (hD : zd T dd dp dl dm pt cO cA cB cC cd cD) (hV : zv T K A B dd dp dl dm pt cO cA cB cC vd eK eD eP cx cu ct) (hR : zr T P C Q L stt dd dp dl dm cO cA cB cC st pd pp pa pf pv yd yp ya yf hel es ew qh qc qk qv mT mK mV) {p d i n l : Nat} (hp : p < P) (h1 : st p = 1) (hs : ¬ stt = 0) (hd : d < 6) (hdd : ¬ dd d = 0) (D : df T dp dl dm cO cA cB cC d n l) (hm : dm d = 0) (hpd : pd p = nI d) (hpp : pp p = nI i) (hi : i < l) (ho : dop cO d i = 1) (G : ∃ e, e < 6 ∧ cA (d * 24 + i) = nI e ∧ ¬ dd e = 0) : pfo (fun post => wpX_perform post (nI T, nI P, nI C, nI Q, stl, cD, vd, eK, eD, eP, stt, nI O, tk, sa, sb, gK, gA, gB, cl, nC, dd, dp, dl, dm, pt, cO, cA, cB, cC, cx, cu, st, pd, pp, pa, pf, pv, es, ew, qh, qc, qk, qv, ou, cm) (nI p)) (fun post => wpY_perform post (nI T, nI P, nI C, nI Q, cD, vd, eK, eD, eP, stt, nI L.length, nI O, tk, sa, sb, eq, du, nx, dd, dp, dl, dm, pt, cd, ct, st, yd, yp, ya, yf, hel, mT, mK, mV, ou, eu, ev) (nI p)) 1 := by
  obtain ⟨s1, s2, s3, s4, s5, s6, s7⟩ := hS
  have hS : zs P C Q O := ⟨s1, s2, s3, s4, s5, s6, s7⟩
  have l24 := D.2.2.2.1
  have hM := D.2.2.2.2.2.1
  have hE := full0 D hm
  obtain ⟨oo, ok⟩ := D.2.2.2.2.2.2 i hi
  rw [ho] at oo ok
  obtain ⟨c0, c1, c2, c3⟩ := hD.2.2.2.1 (d * 24 + i) (by omega)
  obtain ⟨e1, e2, e3, e4⟩ := hR.2.2.1 p hp (by rw [h1]; exact nu_10)
  have hyd := e1.symm.trans hpd
  have hyp := e2.symm.trans hpp
  have hz := hR.1
  have E16 := hz.1.1.1
  obtain ⟨qa, qb, qc64⟩ := zc_q hz s6
  obtain ⟨e, g1, g2, g3⟩ := G
  obtain ⟨n', l', D'⟩ := hD.2.2.1 e g1 g3
  have m' := (hR.2.2.2.2 hs).1 e g1 g3
  have l0 := tm_full_0 (full0 D' m')
  have JR := jn_R (p := p) (by omega) hz.1
  have JE := jn_eq (p := p) hp hz.2.2.2.1 6 (Nat.le_refl _)
  refine ⟨(nI T, nI P, nI C, nI Q, stl, cD, vd, eK, eD, eP, stt, nI O, tk, sa, sb, gK, gA, gB, cl, nC, dd, dp, dl, dm, pt, cO, cA, cB, cC, cx, cu, st, upd pd p (nI e), upd pp p 0, pa, pf, (jn pv p 6).1, es, ew, qh, qc, qk, qv, ou, cm), (nI T, nI P, nI C, nI Q, cD, vd, eK, eD, eP, stt, nI L.length, nI O, tk, sa, sb, eq, du, nx, dd, dp, dl, dm, pt, cd, ct, st, upd yd p (nI e), upd yp p 0, ya, yf, (jn hel p 6).1, mT, mK, mV, ou, eu, ev), fun j => zz_in hS hT hD hV ⟨⟨(JR 6 (Nat.le_refl _)).1, hz.2.1, hz.2.2.1, JE.1, fun j h1 h2 => ?_⟩, zp_jump hR.2 hp h1 hs g1 g3 D' l0 (fun q hq ne v hv => (JR 6 (Nat.le_refl _)).2.2 _ (by omega))⟩, hs, fun post k => wx_p1 (by omega) hd (by omega) hpd hpp oo rfl rfl rfl (by rw [g2]; exact k), fun post k => wy_perf (by omega) hd (by omega) hyd hyp (by omega) (c0.trans oo) c1 c2 c3 (fun q => absurd q (by decide)) (fun _ => ?_)⟩
  · rw [(JR 6 (Nat.le_refl _)).2.2 _ (by omega)]; exact hz.2.2.2.2 j h1 h2
  · rw [g2]
    refine br_t rfl ⟨7, ?_⟩
    refine wy_j89 (by omega) (fun v hv z => (hel_lt (JR v (by omega)).1 (by omega)).mp z) ?_ 7 0 (by omega) (by omega)
    rw [up_up]
    exact br_f (by decide) (br_f (by decide) (br_f (by decide) (br_f (by decide) (wy_264s (o := 1) (by omega) k))))
end PF3
end
section
section PF4
variable {tY pR cH cP stl cD vd eK eD eP stt oC mC : Int32} {tk sa sb gK gA gB cl nC dd dp dl dm pt cO cA cB cC cx cu st pd pp pa pf pv es ew qh qc qk qv ou cm eq du nx cd ct yd yp ya yf hel mT mK mV eu ev : Nat → Int32}
variable {T P C Q O : Nat} {K A B : Nat → Nat} {L : List MG}
/-! the variables in a mask handed from p to q -/
def smh (h : Nat → Int32) (p q m : Nat) : Nat → (Nat → Int32)
  | 0 => h
  | v + 1 => if bm_t m v = true then upd (upd (smh h p q m v) (p * 6 + v) (-1)) (q * 6 + (1 + bm_c m v)) (smh h p q m v (p * 6 + v)) else smh h p q m v
def ews (w hel : Nat → Int32) (p q m : Nat) : Nat → (Nat → Int32)
  | 0 => w
  | v + 1 => if bm_t m v = true then upd (ews w hel p q m v) (hel (p * 6 + v)).toNatClampNeg (nI q) else ews w hel p q m v
theorem bm_cs {m v : Nat} (h : bm_t m v = true) : bm_c m (v + 1) = bm_c m v + 1 := by rw [bm_c]; unfold bm_n; rw [if_pos h]
theorem bm_cn {m v : Nat} (h : ¬ bm_t m v = true) : bm_c m (v + 1) = bm_c m v := by rw [bm_c]; unfold bm_n; rw [if_neg h]; rfl
theorem bm_c6 {m v : Nat} (hv : v < 6) (h : bm_t m v = true) : bm_c m v + 1 ≤ bm_c m 6 := by
  have a := bm_cs h
  have := bm_c_mono m (v + 1) (6 - (v + 1))
  rw [show v + 1 + (6 - (v + 1)) = 6 by omega] at this
  omega
/-- untouched places -/
theorem smh_o {h : Nat → Int32} {p q m : Nat} (hc : 1 + bm_c m 6 ≤ 6) {j : Nat} (h1 : ∀ v, v < 6 → bm_t m v = true → j ≠ p * 6 + v) (h2 : ∀ k, 1 ≤ k → k < 6 → j ≠ q * 6 + k) : ∀ v, v ≤ 6 → smh h p q m v j = h j := by
  intro v
  induction v with
  | zero => intro _; rfl
  | succ v ih =>
    intro hv
    rw [smh]
    by_cases t : bm_t m v = true
    · have := bm_c6 (by omega) t
      rw [if_pos t, pk_un (h2 _ (by omega) (by omega)), pk_un (h1 v (by omega) t)]
      exact ih (by omega)
    · rw [if_neg t]; exact ih (by omega)
theorem smh_c {h : Nat → Int32} {p q m : Nat} {y : Int32} (hpq : p ≠ q) (hc : 1 + bm_c m 6 ≤ 6) {j : Nat} (h1 : ∀ v, v < 6 → bm_t m v = true → j ≠ p * 6 + v) (h2 : ∀ k, 1 ≤ k → k < 6 → j ≠ q * 6 + k) : ∀ v, v ≤ 6 → smh (upd h j y) p q m v = upd (smh h p q m v) j y := by
  intro v
  induction v with
  | zero => intro _; rfl
  | succ v ih =>
    intro hv
    rw [smh, smh, ih (by omega)]
    by_cases t : bm_t m v = true
    · have := bm_c6 (by omega) t
      have n1 := h1 v (by omega) t
      have n2 := h2 (1 + bm_c m v) (by omega) (by omega)
      rw [if_pos t, if_pos t, pk_un (fun z => n1 z.symm), up_c _ n1, up_c _ n2]
    · rw [if_neg t, if_neg t]
theorem smh_eq {p q m : Nat} (hp : p < P) (hc : 1 + bm_c m 6 ≤ 6) (h : ∀ j, j < P * 6 → pv j = hel j) : ∀ v, v ≤ 6 → ∀ j, j < P * 6 → smh pv p q m v j = smh hel p q m v j := by
  intro v
  induction v with
  | zero => intro _; exact h
  | succ v ih =>
    intro hv j hj
    have I := ih (by omega)
    rw [smh, smh]
    by_cases t : bm_t m v = true
    · rw [if_pos t, if_pos t, I (p * 6 + v) (by omega)]
      by_cases e1 : j = q * 6 + (1 + bm_c m v)
      · rw [e1, pk_us, pk_us]
      · rw [pk_un e1, pk_un e1]
        by_cases e2 : j = p * 6 + v
        · rw [e2, pk_us, pk_us]
        · rw [pk_un e2, pk_un e2]; exact I j hj
    · rw [if_neg t, if_neg t]; exact I j hj
theorem ews_c {w : Nat → Int32} {p q m j : Nat} {y : Int32} (h : ∀ v, v < 6 → bm_t m v = true → (hel (p * 6 + v)).toNatClampNeg ≠ j) : ∀ v, v ≤ 6 → ews (upd w j y) hel p q m v = upd (ews w hel p q m v) j y := by
  intro v
  induction v with
  | zero => intro _; rfl
  | succ v ih =>
    intro hv
    rw [ews, ews, ih (by omega)]
    by_cases t : bm_t m v = true
    · rw [if_pos t, if_pos t, up_c _ (fun z => h v (by omega) t z.symm)]
    · rw [if_neg t, if_neg t]
/-- the ends' places stay sound while they are handed over -/
theorem smh_R {p q m : Nat} (hp : p < 6) (hq : q < 6) (hpq : p ≠ q) (hc : 1 + bm_c m 6 ≤ 6) (R : re_R (2 * C) hel L es ew) (hb : ∀ v, v < 6 → bm_t m v = true → ∃ e, e < 2 * C ∧ hel (p * 6 + v) = nI e) (hf : ∀ k, 1 ≤ k → k < 6 → hel (q * 6 + k) = -1) :
    ∀ v, v ≤ 6 → re_R (2 * C) (smh hel p q m v) L es (ews ew hel p q m v) ∧ (∀ w, v ≤ w → w < 6 → smh hel p q m v (p * 6 + w) = hel (p * 6 + w)) ∧ (∀ k, 1 + bm_c m v ≤ k → k < 6 → smh hel p q m v (q * 6 + k) = -1) := by
  have E16 := R.1.1
  intro v
  induction v with
  | zero => intro _; exact ⟨R, fun _ _ _ => rfl, fun k h1 h2 => hf k (by omega) h2⟩
  | succ v ih =>
    intro hv
    obtain ⟨a, b, c⟩ := ih (by omega)
    rw [smh, ews]
    by_cases t : bm_t m v = true
    · have c6 := bm_c6 (by omega) t
      have cs := bm_cs t
      obtain ⟨e, e1, e2⟩ := hb v (by omega) t
      have e3 := (b v (Nat.le_refl _) (by omega)).trans e2
      have F := re_of_hd a (i := p * 6 + v) (by omega) e3 (by omega)
      have M := re_move a (i := p * 6 + v) (j := q * 6 + (1 + bm_c m v)) (e := e) (by omega) (by omega) e3 (by omega) (fun _ => c _ (Nat.le_refl _) (by omega))
      rw [up_id es F.2.1, show (q * 6 + (1 + bm_c m v)) / 6 = q by omega] at M
      rw [if_pos t, if_pos t, e3, e2, nI_clamp (show e < 2 ^ 31 by omega)]
      refine ⟨M, fun w h1 h2 => ?_, fun k h1 h2 => ?_⟩
      · rw [pk_un (by omega), pk_un (by omega)]; exact b w (by omega) h2
      · rw [pk_un (by omega), pk_un (by omega)]; exact c k (by omega) h2
    · rw [if_neg t, if_neg t]
      have cs := bm_cn t
      exact ⟨a, fun w h1 h2 => b w (by omega) h2, fun k h1 h2 => c k (by omega) h2⟩
theorem wx_s83 {post : SX → Prop} {p q m a c : Nat} (hp : p < 6) (hq : q < 6) (hm : m < 64) (hc : 1 + bm_c m 6 ≤ 6) {pv0 ew0 : Nat → Int32} (hv : ∀ v, v < 6 → bm_t m v = true → ∃ e, e < 16 ∧ smh pv0 p q m v (p * 6 + v) = nI e ∧ hel (p * 6 + v) = nI e ∧ es e = 1)
    (k : wpX_hold post (tY, pR, cH, cP, stl, cD, vd, eK, eD, eP, stt, oC, tk, sa, sb, gK, gA, gB, cl, nC, dd, dp, dl, dm, pt, cO, cA, cB, cC, cx, cu, st, pd, pp, pa, pf, smh pv0 p q m 6, es, ews ew0 hel p q m 6, qh, qc, qk, qv, ou, cm) (nI p) (nI a) (nI (2 * c))) :
    ∀ n v, v ≤ 6 → 6 < n + v → wX_spawn_83 post (nI p) (nI a) (nI m) (nI q) (nI c) n (nI (1 + bm_c m v)) (nI v) tY pR cH cP stl cD vd eK eD eP stt oC tk sa sb gK gA gB cl nC dd dp dl dm pt cO cA cB cC cx cu st pd pp pa pf (smh pv0 p q m v) es (ews ew0 hel p q m v) qh qc qk qv ou cm := by
  intro n
  induction n with
  | zero => intro v h1 h2; omega
  | succ n ih =>
    intro v h1 h2
    by_cases h : v = 6
    · subst h
      refine br_t (nI_le (a := 6) (b := 6) (by omega) (by decide)) ?_
      rw [nu_2m]; exact k
    · have I := ih (v + 1) (by omega) (by omega)
      rw [smh, ews] at I
      refine br_f (nI_ge (b := 6) (by omega) (by decide)) ?_
      by_cases t : bm_t m v = true
      · have c6 := bm_c6 (by omega) t
        obtain ⟨e, e1, e2, e3, e4⟩ := hv v (by omega) t
        have ix : nI p * 6 + nI v = nI (p * 6 + v) := vx
        have cx' : (nI (p * 6 + v)).toNatClampNeg = p * 6 + v := nI_clamp (by omega)
        have i3 : vp_in (nI (p * 6 + v)) 36 := vp_in_nI (by omega) (by decide)
        rw [if_pos t, if_pos t, e2, e3, nI_clamp (show e < 2 ^ 31 by omega), bm_cs t] at I
        refine br_t ((bm_b1 (by omega) hm).mpr t) (br_f (nI_ge (b := 6) (by omega) (by decide)) ?_)
        rw [ix, cx', e2]
        refine ⟨i3, nm_e ⟨i3, nm_e ?_⟩⟩
        refine wx_hold hq (by omega) e1 ?_
        rw [up_id es e4]
        exact nm_r (nI_1 _) (nm_r (nI_1 v) I)
      · rw [if_neg t, if_neg t, bm_cn t] at I
        exact br_f (fun w => t ((bm_b1 (by omega) hm).mp w)) (nm_r (nI_1 v) I)
theorem wy_s93 {post : SY → Prop} {p q m a c : Nat} (hp : p < 6) (hq : q < 6) (hpq : p ≠ q) (ha : a < 6) (hm : m < 64) (hc : 1 + bm_c m 6 ≤ 6) (k : post (tY, pR, cH, cP, cD, vd, eK, eD, eP, stt, mC, oC, tk, sa, sb, eq, du, nx, dd, dp, dl, dm, pt, cd, ct, st, yd, yp, ya, yf, upd (upd (smh hel p q m 6) (p * 6 + a) (nI (2 * c))) (q * 6) (nI (2 * c + 1)), mT, mK, mV, ou, eu, ev)) :
    ∀ n v, v ≤ 6 → 6 < n + v → wY_spawn_93 post (nI p) (nI a) (nI m) (nI q) (nI c) tY pR cH cP cD vd eK eD eP stt mC oC n (nI (1 + bm_c m v)) (nI v) tk sa sb eq du nx dd dp dl dm pt cd ct st yd yp ya yf (smh hel p q m v) mT mK mV ou eu ev := by
  have ixa : nI p * 6 + nI a = nI (p * 6 + a) := vx
  intro n
  induction n with
  | zero => intro v h1 h2; omega
  | succ n ih =>
    intro v h1 h2
    by_cases h : v = 6
    · subst h
      refine br_t (nI_le (a := 6) (b := 6) (by omega) (by decide)) ?_
      rw [ixa, nu_m6, nu_2m, nI_1 (2 * c), nI_clamp (show p * 6 + a < 2 ^ 31 by omega), nI_clamp (show q * 6 < 2 ^ 31 by omega)]
      exact ⟨vp_in_nI (by omega) (by decide), nm_e ⟨vp_in_nI (by omega) (by decide), nm_e k⟩⟩
    · have I := ih (v + 1) (by omega) (by omega)
      rw [smh] at I
      refine br_f (nI_ge (b := 6) (by omega) (by decide)) ?_
      by_cases t : bm_t m v = true
      · have c6 := bm_c6 (by omega) t
        have ix : nI p * 6 + nI v = nI (p * 6 + v) := vx
        have iq : nI q * 6 + nI (1 + bm_c m v) = nI (q * 6 + (1 + bm_c m v)) := vx
        rw [if_pos t, bm_cs t, up_c _ (show p * 6 + v ≠ q * 6 + (1 + bm_c m v) by omega)] at I
        refine br_t ((bm_b1 (by omega) hm).mpr t) ?_
        rw [ix, iq, nI_clamp (show p * 6 + v < 2 ^ 31 by omega), nI_clamp (show q * 6 + (1 + bm_c m v) < 2 ^ 31 by omega)]
        exact ⟨vp_in_nI (by omega) (by decide), vp_in_nI (by omega) (by decide), nm_e ⟨vp_in_nI (by omega) (by decide), nm_e (nm_r (nI_1 _) (nm_r (nI_1 v) I))⟩⟩
      · rw [if_neg t, bm_cn t] at I
        exact br_f (fun w => t ((bm_b1 (by omega) hm).mp w)) (nm_r (nI_1 v) I)
theorem wy_s63 {post : SY → Prop} {p q m a c : Nat} {x7 : Int32} (hq : q < 6) (k : ∃ n, wY_spawn_93 post (nI p) (nI a) (nI m) (nI q) (nI c) tY pR cH cP cD vd eK eD eP stt mC oC n x7 0 tk sa sb eq du nx dd dp dl dm pt cd ct st yd yp ya yf (fw hel (q * 6) 6 (fun _ => -1)) mT mK mV ou eu ev) :
    ∀ n v, v ≤ 6 → 6 < n + v → wY_spawn_63 post (nI p) (nI a) (nI m) (nI q) (nI c) x7 tY pR cH cP cD vd eK eD eP stt mC oC n (nI v) tk sa sb eq du nx dd dp dl dm pt cd ct st yd yp ya yf (fw hel (q * 6) v (fun _ => -1)) mT mK mV ou eu ev := by
  intro n
  induction n with
  | zero => intro v h1 h2; omega
  | succ n ih =>
    intro v h1 h2
    by_cases h : v = 6
    · subst h; exact br_t (nI_le (a := 6) (b := 6) (by omega) (by decide)) k
    · refine br_f (nI_ge (b := 6) (by omega) (by decide)) ?_
      rw [vx, nI_clamp (show q * 6 + v < 2 ^ 31 by omega)]
      exact ⟨vp_in_nI (by omega) (by decide), nm_r (fw_s _ _ _ _ rfl) (nm_r (nI_1 v) (ih (v + 1) (by omega) (by omega)))⟩
theorem fw_id {a : Nat → Int32} {lo : Nat} {x : Int32} (h : ∀ v, v < 6 → a (lo + v) = x) : fw a lo 6 (fun _ => x) = a := by
  funext j
  unfold fw
  by_cases z : lo ≤ j ∧ j < lo + 6
  · rw [if_pos z]
    have := h (j - lo) (by omega)
    rw [show lo + (j - lo) = j by omega] at this
    exact this.symm
  · rw [if_neg z]
/-- a new process q, and p a step on -/
theorem zp_spawn {p q d i' n l b n' l' : Nat} {hel' : Nat → Int32} (Z : zp T P stt dd dp dl dm cO cA cB cC st pd pp pa pf yd yp ya yf hel) (hp : p < P) (h1 : st p = 1) (hs : ¬ stt = 0) (hd : d < 6) (hdd : ¬ dd d = 0) (D : df T dp dl dm cO cA cB cC d n l) (hpd : pd p = nI d) (hi : i' < l)
    (hq : q < P) (hq0 : st q = 0) (hb : b < 6) (hbd : ¬ dd b = 0) (D' : df T dp dl dm cO cA cB cC b n' l') (l0 : 0 < l') (hh : ∀ r, r < P → r ≠ p → r ≠ q → ∀ v, v < 6 → hel' (r * 6 + v) = hel (r * 6 + v)) :
    zp T P stt dd dp dl dm cO cA cB cC (upd st q 1) (upd pd q (nI b)) (upd (upd pp q 0) p (nI i')) (upd pa q (pa p)) (upd pf q 0) (upd yd q (nI b)) (upd (upd yp p (nI i')) q 0) (upd ya q (ya p)) (upd yf q 0) hel' := by
  obtain ⟨z1, z2, z3, z4⟩ := Z
  have pq : p ≠ q := fun e => by rw [← e, h1] at hq0; exact nu_10 hq0
  have ap := z2 p hp (by rw [h1]; exact nu_10)
  refine ⟨fun r hr => by rw [pk_un (by omega)]; exact z1 r hr, fun r hr hn => ?_, fun r hr h0 v hv => ?_, fun _ => ⟨(z4 hs).1, fun r hr h => ?_⟩⟩
  · by_cases e : r = q
    · subst e
      rw [pk_us, pk_us, pk_un (fun z => pq z.symm), pk_us, pk_us, pk_us, pk_us, pk_us, pk_us]
      exact ⟨rfl, rfl, ap.2.2.1, rfl⟩
    · rw [pk_un e] at hn
      have a := z2 r hr hn
      by_cases e2 : r = p
      · subst e2
        rw [pk_un e, pk_un e, pk_us, pk_un e, pk_us, pk_un e, pk_un e, pk_un e, pk_un e]
        exact ⟨a.1, rfl, a.2.2.1, a.2.2.2⟩
      · rw [pk_un e, pk_un e, pk_un e2, pk_un e, pk_un e, pk_un e2, pk_un e, pk_un e, pk_un e, pk_un e]; exact a
  · have e : r ≠ q := fun e => by rw [e, pk_us] at h0; exact nu_10 h0
    rw [pk_un e] at h0
    have e2 : r ≠ p := fun e2 => by rw [e2, h1] at h0; exact nu_10 h0
    rw [hh r hr e2 e v hv]; exact z3 r hr h0 v hv
  · by_cases e : r = q
    · subst e
      rw [pk_us, pk_un (fun z => pq z.symm), pk_us]
      exact ⟨b, 0, n', l', hb, hbd, D', (z4 hs).1 b hb hbd, rfl, rfl, l0⟩
    · rw [pk_un e] at h
      rw [pk_un e]
      by_cases e2 : r = p
      · subst e2
        rw [pk_us]
        exact ⟨d, i', n, l, hd, hdd, D, (z4 hs).1 d hd hdd, hpd, rfl, hi⟩
      · rw [pk_un e2, pk_un e]; exact (z4 hs).2 r hr h
theorem wx_p13 {post : Int32 → SX → Prop} {p d i : Nat} {x y z : Int32} (hp : p < 6) (hd : d < 6) (hi : i < 24) (hpd : pd p = nI d) (hpp : pp p = nI i) (h0 : cO (d * 24 + i) = nI 13) (h1 : cA (d * 24 + i) = x) (h2 : cB (d * 24 + i) = y) (h3 : cC (d * 24 + i) = z) {a b m q c : Nat} (ha : a < 6) (hb : b < 6) (hm : m < 64) (hx : x = nI a) (hy : y = nI b) (hz : z = nI m) (hP : P ≤ 6) (hC : C ≤ 8) (hc : 1 + bm_c m 6 ≤ 6) (q1 : q < P) (q2 : st q = 0) (q3 : ∀ j, j < q → ¬ st j = 0) (c1 : c < C) (c2 : es (2 * c) = 0) (c3 : ∀ j, j < c → ¬ es (2 * j) = 0) (hpq : p ≠ q)
    (hf : ∀ v, v < 6 → pv (q * 6 + v) = -1) (hv : ∀ v, v < 6 → bm_t m v = true → ∃ e, e < 16 ∧ e ≠ 2 * c + 1 ∧ smh (upd pv (q * 6 + 0) (nI (2 * c + 1))) p q m v (p * 6 + v) = nI e ∧ hel (p * 6 + v) = nI e ∧ es e = 1)
    (k : post 1 (tY, nI P, nI C, cP, stl, cD, vd, eK, eD, eP, stt, oC, tk, sa, sb, gK, gA, gB, cl, nC, dd, dp, dl, dm, pt, cO, cA, cB, cC, cx, cu, upd st q 1, upd pd q (nI b), upd (upd pp q 0) p (nI (i + 1)), upd pa q (pa p), upd pf q 0, upd (smh (upd pv (q * 6 + 0) (nI (2 * c + 1))) p q m 6) (p * 6 + a) (nI (2 * c)), upd (upd es (2 * c + 1) 1) (2 * c) 1, upd (ews (upd ew (2 * c + 1) (nI q)) hel p q m 6) (2 * c) (nI p), upd (upd qh (2 * c) 0) (2 * c + 1) 0, upd (upd qc (2 * c) 0) (2 * c + 1) 0, qk, qv, ou, cm)) : wpX_perform post (tY, nI P, nI C, cP, stl, cD, vd, eK, eD, eP, stt, oC, tk, sa, sb, gK, gA, gB, cl, nC, dd, dp, dl, dm, pt, cO, cA, cB, cC, cx, cu, st, pd, pp, pa, pf, pv, es, ew, qh, qc, qk, qv, ou, cm) (nI p) := by
  have i1 : vp_in (nI p) 6 := vp_in_nI hp (by decide)
  have ee : (nI p).toNatClampNeg = p := nI_clamp (by omega)
  have i2 : vp_in (nI (d * 24 + i)) 144 := vp_in_nI (by omega) (by decide)
  have e2 : (nI (d * 24 + i)).toNatClampNeg = d * 24 + i := nI_clamp (by omega)
  unfold wpX_perform
  refine ⟨i1, nm_r (e' := nI d) (by rw [ee]; exact hpd) ⟨i1, nm_r (e' := nI i) (by rw [ee]; exact hpp) (nm_r (e' := nI (d * 24 + i)) (by rw [nu_m24, nI_add]) ⟨i2, nm_r (e' := x) (by rw [e2]; exact h1) ⟨i2, nm_r (e' := y) (by rw [e2]; exact h2) (nm_r (nI_1 i) ⟨i2, nm_r (e' := nI 13) (by rw [e2]; exact h0) ?_⟩)⟩⟩)⟩⟩
  refine br_f (by decide) (br_f (by decide) (br_f (by decide) (br_f (by decide) (br_f (by decide) (br_f (by decide) (br_f (by decide) (br_f (by decide) (br_f (by decide) (br_f (by decide) (br_f (by decide) (br_f (by decide) (br_f (by decide) (br_f (by decide) (br_f (by decide) (br_t rfl ?_)))))))))))))))
  rw [hx, hy, e2, h3, hz]
  refine ⟨i2, ?_⟩
  have iq : vp_in (nI q) 6 := vp_in_nI (by omega) (by decide)
  have eq' : (nI q).toNatClampNeg = q := nI_clamp (by omega)
  unfold wpX_spawn
  refine wx_freeSlot hP (fun q' a1 a2 a3 => ?_) (fun w => absurd q2 (w q q1))
  have := least_u (F := fun c => st c = 0) a2 a3 q2 q3
  subst this
  refine wx_freeChan hC (fun c' b1 b2 b3 => ?_) (fun w => absurd c2 (w c c1))
  have := least_u (F := fun c => es (2 * c) = 0) b2 b3 c2 c3
  subst this
  refine br_f (nI_pos (by omega)) (br_t (nI_pos' (by omega)) ?_)
  refine wx_emptyQ (by omega) ?_
  refine wx_resetSlot (by omega) ?_
  have e0 : 2 * nI c' + 1 = nI (2 * c' + 1) := by rw [nu_2m, nI_1]
  refine ⟨iq, nm_r (e' := upd st q' 1) (by rw [eq', up_up]) ⟨iq, nm_r (e' := upd pd q' (nI b)) (by rw [eq', up_up]) ⟨i1, iq, nm_r (e' := upd pa q' (pa p)) (by rw [ee, eq', pk_un hpq, up_up]) ?_⟩⟩⟩
  rw [e0, fw_id hf]
  refine wx_hold (a := 0) (by omega) (by omega) (by omega) ⟨7, ?_⟩
  refine wx_s83 (hel := hel) hp (by omega) hm hc (fun v v1 v2 => ?_) ?_ 7 0 (by omega) (by omega)
  · obtain ⟨e, w1, w2, w3, w4, w5⟩ := hv v v1 v2
    exact ⟨e, w1, w3, w4, by rw [pk_un w2]; exact w5⟩
  · exact wx_hold hp ha (by omega) ⟨i1, nm_r (e' := upd (upd pp q' 0) p (nI (i + 1))) (by rw [ee]) k⟩
theorem wb_p13 (hS : zs P C Q O) (hT : zt T K A B tk sa sb cl stl) (hD : zd T dd dp dl dm pt cO cA cB cC cd cD) (hV : zv T K A B dd dp dl dm pt cO cA cB cC vd eK eD eP cx cu ct) (hR : zr T P C Q L stt dd dp dl dm cO cA cB cC st pd pp pa pf pv yd yp ya yf hel es ew qh qc qk qv mT mK mV) {p d i n l : Nat} (hp : p < P) (h1 : st p = 1) (hs : ¬ stt = 0) (hd : d < 6) (hdd : ¬ dd d = 0) (D : df T dp dl dm cO cA cB cC d n l) (hm : dm d = 0) (hpd : pd p = nI d) (hpp : pp p = nI i) (hi : i < l) (ho : dop cO d i = 13) (G : ∃ a b m q c, a < 6 ∧ b < 6 ∧ m < 64 ∧ cA (d * 24 + i) = nI a ∧ cB (d * 24 + i) = nI b ∧ cC (d * 24 + i) = nI m ∧ hel (p * 6 + a) = -1 ∧ nI m &&& nI (jm (bv hel p)) = nI m ∧ ¬ dd b = 0 ∧ dp b = nI (1 + bm_c m 6) ∧ q < P ∧ st q = 0 ∧ (∀ j, j < q → ¬ st j = 0) ∧ c < C ∧ es (2 * c) = 0 ∧ (∀ j, j < c → ¬ es (2 * j) = 0)) : pfo (fun post => wpX_perform post (nI T, nI P, nI C, nI Q, stl, cD, vd, eK, eD, eP, stt, nI O, tk, sa, sb, gK, gA, gB, cl, nC, dd, dp, dl, dm, pt, cO, cA, cB, cC, cx, cu, st, pd, pp, pa, pf, pv, es, ew, qh, qc, qk, qv, ou, cm) (nI p)) (fun post => wpY_perform post (nI T, nI P, nI C, nI Q, cD, vd, eK, eD, eP, stt, nI L.length, nI O, tk, sa, sb, eq, du, nx, dd, dp, dl, dm, pt, cd, ct, st, yd, yp, ya, yf, hel, mT, mK, mV, ou, eu, ev) (nI p)) 1 := by
  obtain ⟨s1, s2, s3, s4, s5, s6, s7⟩ := hS
  have hS : zs P C Q O := ⟨s1, s2, s3, s4, s5, s6, s7⟩
  have l24 := D.2.2.2.1
  have hM := D.2.2.2.2.2.1
  have hE := full0 D hm
  obtain ⟨oo, ok⟩ := D.2.2.2.2.2.2 i hi
  rw [ho] at oo ok
  obtain ⟨c0, c1, c2, c3⟩ := hD.2.2.2.1 (d * 24 + i) (by omega)
  obtain ⟨e1, e2, e3, e4⟩ := hR.2.2.1 p hp (by rw [h1]; exact nu_10)
  have hyd := e1.symm.trans hpd
  have hyp := e2.symm.trans hpp
  have hz := hR.1
  have E16 := hz.1.1.1
  obtain ⟨qa, qb, qc64⟩ := zc_q hz s6
  have hn := tm_full_nt hM hE hi (show ¬ (dop cO d i = 0 ∨ dop cO d i = 1) by omega)
  obtain ⟨a, b, m, q, c, a1, b1, m1, ax, bx, mx, ha0, hsub, hbd, hbp, q1, q2, q3, k1, k2, k3⟩ := G
  have i1 : vp_in (nI p) 6 := vp_in_nI (by omega) (by decide)
  have iq : vp_in (nI q) 6 := vp_in_nI (by omega) (by decide)
  have ep : (nI p).toNatClampNeg = p := nI_clamp (by omega)
  have eq' : (nI q).toNatClampNeg = q := nI_clamp (by omega)
  obtain ⟨n', l', D'⟩ := hD.2.2.1 b b1 hbd
  have m' := (hR.2.2.2.2 hs).1 b b1 hbd
  have l0 := tm_full_0 (full0 D' m')
  have cb := bm_c_le m 6
  have hcc : 1 + bm_c m 6 ≤ 6 := by
    have h6 := D'.2.1
    have := (nI_eq (by omega) (by omega)).mp (hbp.symm.trans D'.1)
    omega
  have pq : p ≠ q := fun e => by rw [← e, h1] at q2; exact nu_10 q2
  have hfree := hR.2.2.2.1 q q1 q2
  have hbnd : ∀ v, v < 6 → bm_t m v = true → ∃ e, e < 2 * C ∧ hel (p * 6 + v) = nI e := fun v v1 v2 => by
    have w : ¬ bv hel p v < 0 := (jm_b v1).mp (bm_sub2 m m1 _ (jm_64 _) hsub v v1 v2)
    rcases re_hd hz.1 (i := p * 6 + v) (by omega) with z | z
    · exact absurd (by show hel (p * 6 + v) < 0; rw [z]; exact nu_m1lt) w
    · exact z
  have nma : ∀ v, v < 6 → bm_t m v = true → p * 6 + a ≠ p * 6 + v := fun v v1 v2 w => by
    obtain ⟨e, w1, w2⟩ := hbnd v v1 v2
    rw [← w, ha0] at w2
    exact absurd w2 (re_n1 (by omega))
  have RO := re_open hz.1 (i := p * 6 + a) (j := q * 6) (c := c) (by omega) (by omega) (by omega) ha0 (by have := hfree 0 (by omega); rw [Nat.add_zero] at this; exact this) (by omega) k2
  rw [show (p * 6 + a) / 6 = p by omega, show q * 6 / 6 = q by omega] at RO
  have jx1 : ∀ k, 1 ≤ k → k < 6 → p * 6 + a ≠ q * 6 + k := fun k w1 w2 => by omega
  have jq1 : ∀ v, v < 6 → bm_t m v = true → q * 6 ≠ p * 6 + v := fun v v1 _ => by omega
  have jq2 : ∀ k, 1 ≤ k → k < 6 → q * 6 ≠ q * 6 + k := fun k w1 w2 => by omega
  have hupd : ∀ j, j ≠ p * 6 + a → j ≠ q * 6 → upd (upd hel (p * 6 + a) (nI (2 * c))) (q * 6) (nI (2 * c + 1)) j = hel j := fun j w1 w2 => by rw [pk_un w2, pk_un w1]
  have SR := smh_R (p := p) (q := q) (m := m) (by omega) (by omega) pq hcc RO (fun v v1 v2 => by
      obtain ⟨e, w1, w2⟩ := hbnd v v1 v2
      exact ⟨e, w1, by rw [hupd _ (fun w => nma v v1 v2 w.symm) (fun w => jq1 v v1 v2 w.symm)]; exact w2⟩) (fun k w1 w2 => by
      rw [hupd _ (fun w => jx1 k w1 w2 w.symm) (fun w => jq2 k w1 w2 w.symm)]; exact hfree k w2)
  have SR6 := (SR 6 (Nat.le_refl _)).1
  -- the values of the variables handed over
  have ev1 : ∀ v, v < 6 → bm_t m v = true → ∃ e, e < 2 * C ∧ hel (p * 6 + v) = nI e ∧ es e = 1 ∧ e ≠ 2 * c ∧ e ≠ 2 * c + 1 := fun v v1 v2 => by
    obtain ⟨e, w1, w2⟩ := hbnd v v1 v2
    have s1 := (re_of_hd hz.1 (by omega) w2 (by omega)).2.1
    refine ⟨e, w1, w2, s1, fun w => ?_, fun w => ?_⟩
    · rw [w, k2] at s1; exact absurd s1 (by decide)
    · rw [w, re_free hz.1 k1 k2] at s1; exact absurd s1 (by decide)
  have same : smh (upd (upd hel (p * 6 + a) (nI (2 * c))) (q * 6) (nI (2 * c + 1))) p q m 6 = upd (upd (smh hel p q m 6) (p * 6 + a) (nI (2 * c))) (q * 6) (nI (2 * c + 1)) := by
    rw [smh_c pq hcc jq1 jq2 6 (Nat.le_refl _), smh_c pq hcc nma jx1 6 (Nat.le_refl _)]
  have ewe : ∀ w : Nat → Int32, ews w (upd (upd hel (p * 6 + a) (nI (2 * c))) (q * 6) (nI (2 * c + 1))) p q m 6 = ews w hel p q m 6 := fun w => by
    have : ∀ v, v ≤ 6 → ews w (upd (upd hel (p * 6 + a) (nI (2 * c))) (q * 6) (nI (2 * c + 1))) p q m v = ews w hel p q m v := by
      intro v
      induction v with
      | zero => intro _; rfl
      | succ v ih =>
        intro hv
        rw [ews, ews, ih (by omega)]
        by_cases tt : bm_t m v = true
        · rw [if_pos tt, if_pos tt, hupd _ (fun w => nma v (by omega) tt w.symm) (fun w => jq1 v (by omega) tt w.symm)]
        · rw [if_neg tt, if_neg tt]
    exact this 6 (Nat.le_refl _)
  have cle : ∀ v, v < 6 → bm_t m v = true → (hel (p * 6 + v)).toNatClampNeg ≠ 2 * c := fun v v1 v2 => by
    obtain ⟨e, w1, w2, w3, w4, w5⟩ := ev1 v v1 v2
    rw [w2, nI_clamp (by omega)]; exact w4
  rw [same, ewe, up_c ew (show 2 * c ≠ 2 * c + 1 by omega), ews_c cle 6 (Nat.le_refl _), up_c es (show 2 * c ≠ 2 * c + 1 by omega)] at SR6
  have pvh := hz.2.2.2.1
  have hpv6 : ∀ j, j < P * 6 → upd (smh (upd pv (q * 6 + 0) (nI (2 * c + 1))) p q m 6) (p * 6 + a) (nI (2 * c)) j = upd (upd (smh hel p q m 6) (p * 6 + a) (nI (2 * c))) (q * 6) (nI (2 * c + 1)) j := fun j hj => by
    rw [Nat.add_zero, smh_c pq hcc jq1 jq2 6 (Nat.le_refl _), up_c _ (show q * 6 ≠ p * 6 + a by omega)]
    exact pv_u (i := q * 6) (x := nI (2 * c + 1)) (pv_u (i := p * 6 + a) (x := nI (2 * c)) (smh_eq hp hcc pvh 6 (Nat.le_refl _))) j hj
  have oth : ∀ j, (∀ v, v < 6 → j ≠ p * 6 + v) → (∀ v, v < 6 → j ≠ q * 6 + v) → upd (upd (smh hel p q m 6) (p * 6 + a) (nI (2 * c))) (q * 6) (nI (2 * c + 1)) j = hel j := fun j w1 w2 => by
    rw [pk_un (by have := w2 0 (by omega); rw [Nat.add_zero] at this; exact this), pk_un (w1 a a1), smh_o hcc (fun v v1 _ => w1 v v1) (fun k _ u2 => w2 k u2) 6 (Nat.le_refl _)]
  obtain ⟨fq0, fq1⟩ := re_fq hz.1 k1 k2
  refine ⟨(nI T, nI P, nI C, nI Q, stl, cD, vd, eK, eD, eP, stt, nI O, tk, sa, sb, gK, gA, gB, cl, nC, dd, dp, dl, dm, pt, cO, cA, cB, cC, cx, cu, upd st q 1, upd pd q (nI b), upd (upd pp q 0) p (nI (i + 1)), upd pa q (pa p), upd pf q 0, upd (smh (upd pv (q * 6 + 0) (nI (2 * c + 1))) p q m 6) (p * 6 + a) (nI (2 * c)), upd (upd es (2 * c + 1) 1) (2 * c) 1, upd (ews (upd ew (2 * c + 1) (nI q)) hel p q m 6) (2 * c) (nI p), upd (upd qh (2 * c) 0) (2 * c + 1) 0, upd (upd qc (2 * c) 0) (2 * c + 1) 0, qk, qv, ou, cm),
    (nI T, nI P, nI C, nI Q, cD, vd, eK, eD, eP, stt, nI L.length, nI O, tk, sa, sb, eq, du, nx, dd, dp, dl, dm, pt, cd, ct, upd st q 1, upd yd q (nI b), upd (upd yp p (nI (i + 1))) q 0, upd ya q (ya p), upd yf q 0, upd (upd (smh hel p q m 6) (p * 6 + a) (nI (2 * c))) (q * 6) (nI (2 * c + 1)), mT, mK, mV, ou, eu, ev),
    fun j => zz_in hS hT hD hV ⟨⟨SR6, hz.2.1, rq_empty hz.2.2.1 fq0 fq1, hpv6, fun j w1 w2 => ?_⟩, zp_spawn hR.2 hp h1 hs hd hdd D hpd hn q1 q2 b1 hbd D' l0 (fun r hr w1 w2 v hv => oth _ (fun v' u => by omega) (fun v' u => by omega))⟩, hs, fun post k => ?_, fun post k => wy_perf (by omega) hd (by omega) hyd hyp (by omega) (c0.trans oo) c1 c2 c3 (fun q => absurd q (by decide)) (fun _ => wy_80h (by omega) (by omega) ?_)⟩
  · rw [oth j (fun v u => by omega) (fun v u => by omega)]; exact hz.2.2.2.2 j w1 w2
  · refine wx_p13 (hel := hel) (by omega) hd (by omega) hpd hpp oo rfl rfl rfl a1 b1 m1 ax bx mx s2 s4 hcc q1 q2 q3 k1 k2 k3 pq (fun v hv => (pvh _ (by omega)).trans (hfree v hv)) (fun v v1 v2 => ?_) k
    obtain ⟨e, w1, w2, w3, w4, w5⟩ := ev1 v v1 v2
    refine ⟨e, by omega, w5, ?_, w2, w3⟩
    rw [Nat.add_zero, smh_c pq hcc jq1 jq2 v (by omega), pk_un (fun w => jq1 v v1 v2 w.symm)]
    have S0 := smh_R (p := p) (q := q) (m := m) (by omega) (by omega) pq hcc hz.1 hbnd (fun k w1 w2 => hfree k w2) v (by omega)
    rw [smh_eq hp hcc pvh v (by omega) _ (by omega), S0.2.1 v (Nat.le_refl _) v1]; exact w2
  · refine br_f (by decide) (br_f (by decide) (br_f (by decide) (br_f (by decide) (br_f (by decide) (br_f (by decide) (br_f (by decide) (br_t rfl ?_)))))))
    rw [ax, bx, mx]
    unfold wpY_spawn
    refine wy_freeSlot s2 (fun q' u1 u2 u3 => ?_) (fun w => absurd q2 (w q q1))
    have := least_u (F := fun c => st c = 0) u2 u3 q2 q3
    subst this
    refine wy_freeChan hz.1 hz.2.1 qc64 (fun c' v1 v2 v3 => ?_) (fun w => absurd k2 (w c k1))
    have := least_u (F := fun c => es (2 * c) = 0) v2 v3 k2 k3
    subst this
    refine ⟨iq, nm_r (e' := upd st q' 1) (by rw [eq']) ⟨iq, nm_r (e' := upd yd q' (nI b)) (by rw [eq']) ⟨iq, nm_r (e' := upd (upd yp p (nI (i + 1))) q' 0) (by rw [eq']) ⟨i1, iq, nm_r (e' := upd ya q' (ya p)) (by rw [eq', ep]) ⟨iq, nm_r (e' := upd yf q' 0) (by rw [eq']) ⟨7, ?_⟩⟩⟩⟩⟩⟩
    rw [← fw_0 hel (q' * 6) (fun _ => -1)]
    refine wy_s63 (by omega) ⟨7, ?_⟩ 7 0 (by omega) (by omega)
    rw [fw_id hfree]
    exact wy_s93 (by omega) (by omega) pq a1 m1 hcc (wy_498 (by decide) k) 7 0 (by omega) (by omega)
end PF4
end
section
section STP
variable {tY pR cH cP stl cD vd eK eD eP stt oC mC : Int32} {tk sa sb gK gA gB cl nC dd dp dl dm pt cO cA cB cC cx cu st pd pp pa pf pv es ew qh qc qk qv ou cm eq du nx cd ct yd yp ya yf hel mT mK mV eu ev : Nat → Int32}
variable {T P C Q O : Nat} {K A B : Nat → Nat} {L : List MG}
/-! both: a step that goes through -/
theorem wb_perform (hS : zs P C Q O) (hT : zt T K A B tk sa sb cl stl) (hD : zd T dd dp dl dm pt cO cA cB cC cd cD) (hV : zv T K A B dd dp dl dm pt cO cA cB cC vd eK eD eP cx cu ct) (hR : zr T P C Q L stt dd dp dl dm cO cA cB cC st pd pp pa pf pv yd yp ya yf hel es ew qh qc qk qv mT mK mV) {p d i n l : Nat} (hp : p < P) (h1 : st p = 1) (hs : ¬ stt = 0) (hd : d < 6) (hdd : ¬ dd d = 0) (D : df T dp dl dm cO cA cB cC d n l) (hm : dm d = 0) (hpd : pd p = nI d) (hpp : pp p = nI i) (hi : i < l) (G : pcn P C Q L dd dp st hel es p (dop cO d i) (cA (d * 24 + i)) (cB (d * 24 + i)) (cC (d * 24 + i))) : pfo (fun post => wpX_perform post (nI T, nI P, nI C, nI Q, stl, cD, vd, eK, eD, eP, stt, nI O, tk, sa, sb, gK, gA, gB, cl, nC, dd, dp, dl, dm, pt, cO, cA, cB, cC, cx, cu, st, pd, pp, pa, pf, pv, es, ew, qh, qc, qk, qv, ou, cm) (nI p)) (fun post => wpY_perform post (nI T, nI P, nI C, nI Q, cD, vd, eK, eD, eP, stt, nI L.length, nI O, tk, sa, sb, eq, du, nx, dd, dp, dl, dm, pt, cd, ct, st, yd, yp, ya, yf, hel, mT, mK, mV, ou, eu, ev) (nI p)) (if dop cO d i = 0 then 2 else 1) := by
  obtain ⟨oo, ok⟩ := D.2.2.2.2.2.2 i hi
  have o15 := ok.1
  obtain ⟨g0, g1, g6, g7, g8, g9, g12, g13, g14⟩ := G
  clear ok
  by_cases o0 : dop cO d i = 0
  · rw [if_pos o0]; exact wb_p0 hS hT hD hV hR hp h1 hs hd hdd D hm hpd hpp hi o0 (g0 o0)
  rw [if_neg o0]
  by_cases o1 : dop cO d i = 1
  · obtain ⟨e, a1, a2, a3, a4⟩ := g1 o1
    exact wb_p1 hS hT hD hV hR hp h1 hs hd hdd D hm hpd hpp hi o1 ⟨e, a1, a2, a3⟩
  by_cases o2 : dop cO d i = 2
  · exact wb_p2 hS hT hD hV hR hp h1 hs hd hdd D hm hpd hpp hi o2
  by_cases o3 : dop cO d i = 3
  · exact wb_p3 hS hT hD hV hR hp h1 hs hd hdd D hm hpd hpp hi o3
  by_cases o4 : dop cO d i = 4
  · exact wb_p4 hS hT hD hV hR hp h1 hs hd hdd D hm hpd hpp hi o4
  by_cases o5 : dop cO d i = 5
  · exact wb_p5 hS hT hD hV hR hp h1 hs hd hdd D hm hpd hpp hi o5
  by_cases o6 : dop cO d i = 6
  · exact wb_p6 hS hT hD hV hR hp h1 hs hd hdd D hm hpd hpp hi o6 (g6 (Or.inl o6))
  by_cases o7 : dop cO d i = 7
  · obtain ⟨a, e, m, S, a1, a2, a3, a4, a5, a6⟩ := g7 (Or.inl o7)
    rw [if_pos o7] at a6
    exact wb_p7 hS hT hD hV hR hp h1 hs hd hdd D hm hpd hpp hi o7 ⟨a, e, m, S, a1, a2, a3, a4, a5, a6⟩
  by_cases o8 : dop cO d i = 8
  · exact wb_p8 hS hT hD hV hR hp h1 hs hd hdd D hm hpd hpp hi o8 (g8 o8)
  by_cases o9 : dop cO d i = 9
  · exact wb_p9 hS hT hD hV hR hp h1 hs hd hdd D hm hpd hpp hi o9 (g9 o9)
  by_cases o10 : dop cO d i = 10
  · exact wb_p10 hS hT hD hV hR hp h1 hs hd hdd D hm hpd hpp hi o10 (g6 (Or.inr o10))
  by_cases o11 : dop cO d i = 11
  · obtain ⟨a, e, m, S, a1, a2, a3, a4, a5, a6⟩ := g7 (Or.inr o11)
    rw [if_neg o7] at a6
    exact wb_p11 hS hT hD hV hR hp h1 hs hd hdd D hm hpd hpp hi o11 ⟨a, e, m, S, a1, a2, a3, a4, a5, a6⟩
  by_cases o12 : dop cO d i = 12
  · exact wb_p12 hS hT hD hV hR hp h1 hs hd hdd D hm hpd hpp hi o12 (g12 o12)
  by_cases o13 : dop cO d i = 13
  · exact wb_p13 hS hT hD hV hR hp h1 hs hd hdd D hm hpd hpp hi o13 (g13 o13)
  · have o14 : dop cO d i = 14 := by clear g0 g1 g6 g7 g8 g9 g12 g13 g14; omega
    exact wb_p14 hS hT hD hV hR hp h1 hs hd hdd D hm hpd hpp hi o14 (g14 o14)
theorem wb_live (hS : zs P C Q O) (hT : zt T K A B tk sa sb cl stl) (hD : zd T dd dp dl dm pt cO cA cB cC cd cD) (hV : zv T K A B dd dp dl dm pt cO cA cB cC vd eK eD eP cx cu ct) (hR : zr T P C Q L stt dd dp dl dm cO cA cB cC st pd pp pa pf pv yd yp ya yf hel es ew qh qc qk qv mT mK mV) (hs : ¬ stt = 0) {p : Nat} (hp : p < P) (h1 : st p = 1) : ∃ (a : Int32) (u' : SX) (v' : SY), (∀ j, i_Rel j u' v') ∧ ¬ sst u' = 0 ∧ (∀ post : Int32 → SX → Prop, post a u' → wpX_stepLive post (nI T, nI P, nI C, nI Q, stl, cD, vd, eK, eD, eP, stt, nI O, tk, sa, sb, gK, gA, gB, cl, nC, dd, dp, dl, dm, pt, cO, cA, cB, cC, cx, cu, st, pd, pp, pa, pf, pv, es, ew, qh, qc, qk, qv, ou, cm) (nI p)) ∧ (∀ post : Int32 → SY → Prop, post a v' → wpY_step post (nI T, nI P, nI C, nI Q, cD, vd, eK, eD, eP, stt, nI L.length, nI O, tk, sa, sb, eq, du, nx, dd, dp, dl, dm, pt, cd, ct, st, yd, yp, ya, yf, hel, mT, mK, mV, ou, eu, ev) (nI p)) := by
  have P6 := hS.2.1
  have i1 : vp_in (nI p) 6 := vp_in_nI (by omega) (by decide)
  have ee : (nI p).toNatClampNeg = p := nI_clamp (by omega)
  obtain ⟨d, i, n, l, hd, hdd, D, hm, hpd, hpp, hi, r, y, HX, HY, RL, G⟩ := wb_probe (T := T) (P := P) (C := C) (Q := Q) (O := O) (L := L) (stl := stl) (cD := cD) (vd := vd) (eK := eK) (eD := eD) (eP := eP) (stt := stt) (tk := tk) (sa := sa) (sb := sb) (gK := gK) (gA := gA) (gB := gB) (cl := cl) (nC := nC) (dd := dd) (dp := dp) (dl := dl) (dm := dm) (pt := pt) (cO := cO) (cA := cA) (cB := cB) (cC := cC) (cx := cx) (cu := cu) (st := st) (pd := pd) (pp := pp) (pa := pa) (pf := pf) (pv := pv) (es := es) (ew := ew) (qh := qh) (qc := qc) (qk := qk) (qv := qv) (ou := ou) (cm := cm) (eq := eq) (du := du) (nx := nx) (cd := cd) (ct := ct) (yd := yd) (yp := yp) (ya := ya) (yf := yf) (hel := hel) (mT := mT) (mK := mK) (mV := mV) (eu := eu) (ev := ev) hS hD hR hp h1 hs
  rcases RL with ⟨r0, yy⟩ | ⟨f, f1, f8, rf, yf'⟩ | ⟨r4, y4⟩ | ⟨r5, y5⟩
  · obtain ⟨u', v', R', S', PX, PY⟩ := wb_perform (T := T) (P := P) (C := C) (Q := Q) (O := O) (K := K) (A := A) (B := B) (L := L) (stl := stl) (cD := cD) (vd := vd) (eK := eK) (eD := eD) (eP := eP) (stt := stt) (tk := tk) (sa := sa) (sb := sb) (gK := gK) (gA := gA) (gB := gB) (cl := cl) (nC := nC) (dd := dd) (dp := dp) (dl := dl) (dm := dm) (pt := pt) (cO := cO) (cA := cA) (cB := cB) (cC := cC) (cx := cx) (cu := cu) (st := st) (pd := pd) (pp := pp) (pa := pa) (pf := pf) (pv := pv) (es := es) (ew := ew) (qh := qh) (qc := qc) (qk := qk) (qv := qv) (ou := ou) (cm := cm) (eq := eq) (du := du) (nx := nx) (cd := cd) (ct := ct) (yd := yd) (yp := yp) (ya := ya) (yf := yf) (hel := hel) (mT := mT) (mK := mK) (mV := mV) (eu := eu) (ev := ev) hS hT hD hV hR hp h1 hs hd hdd D hm hpd hpp hi (G r0)
    refine ⟨if dop cO d i = 0 then 2 else 1, u', v', R', S', fun post k => ?_, fun post k => ?_⟩
    · unfold wpX_stepLive
      refine HX _ ?_
      rw [r0]
      exact br_t (by decide) (br_t (by decide) (PX _ k))
    · unfold wpY_step
      refine br_f hs ?_
      refine wy_in1 hp ?_
      refine br_f nu_10 ⟨i1, br_t (by rw [ee]; exact h1) ?_⟩
      refine HY _ ?_
      rw [yy]
      have z1 : (0 : Int32) ≤ (if dop cO d i = 0 then 2 else 1) := by split <;> decide
      refine br_t z1 ?_
      by_cases q : dop cO d i = 0
      · rw [if_pos q] at k ⊢
        exact br_f (by decide) (br_t rfl (PY _ k))
      · rw [if_neg q] at k ⊢
        exact br_t rfl (PY _ k)
  · have pnn := (hR.2.2.1 p hp (by rw [h1]; exact nu_10))
    refine ⟨3, (nI T, nI P, nI C, nI Q, stl, cD, vd, eK, eD, eP, stt, nI O, tk, sa, sb, gK, gA, gB, cl, nC, dd, dp, dl, dm, pt, cO, cA, cB, cC, cx, cu, upd st p 2, pd, pp, pa, upd pf p (nI f), pv, es, ew, qh, qc, qk, qv, ou, cm), (nI T, nI P, nI C, nI Q, cD, vd, eK, eD, eP, stt, nI L.length, nI O, tk, sa, sb, eq, du, nx, dd, dp, dl, dm, pt, cd, ct, upd st p 2, yd, yp, ya, upd yf p (nI f), hel, mT, mK, mV, ou, eu, ev), fun j => zz_in hS hT hD hV ⟨hR.1, fun q hq => ?_, fun q hq hn => ?_, fun q hq h0 v hv => ?_, fun _ => ⟨(hR.2.2.2.2 hs).1, fun q hq h => ?_⟩⟩, hs, fun post k => ?_, fun post k => ?_⟩
    · rw [pk_un (by omega)]; exact hR.2.1 q hq
    · by_cases e : q = p
      · subst e; rw [pk_us, pk_us]; exact ⟨pnn.1, pnn.2.1, pnn.2.2.1, rfl⟩
      · rw [pk_un e] at hn; rw [pk_un e, pk_un e]; exact hR.2.2.1 q hq hn
    · have e : q ≠ p := fun e => by rw [e, pk_us] at h0; exact absurd h0 (by decide)
      rw [pk_un e] at h0; exact hR.2.2.2.1 q hq h0 v hv
    · have e : q ≠ p := fun e => by rw [e, pk_us] at h; exact absurd h (by decide)
      rw [pk_un e] at h; exact (hR.2.2.2.2 hs).2 q hq h
    · unfold wpX_stepLive
      refine HX _ ?_
      rw [rf]
      exact br_t (nI_pos' (by omega)) (br_f (nI_nle (by omega) (by omega)) ⟨i1, nm_r (e' := upd st p 2) (by rw [ee]) ⟨i1, nm_r (e' := upd pf p (nI f)) (by rw [ee]) k⟩⟩)
    · unfold wpY_step
      refine br_f hs ?_
      refine wy_in1 hp ?_
      refine br_f nu_10 ⟨i1, br_t (by rw [ee]; exact h1) ?_⟩
      refine HY _ ?_
      rw [yf']
      have neg : ¬ (0 : Int32) ≤ -nI f := by
        have : ∀ f, f < 9 → 1 ≤ f → ¬ (0 : Int32) ≤ -nI f := by decide
        exact this f (by omega) f1
      exact br_f neg ⟨i1, nm_r (e' := upd st p 2) (by rw [ee]) ⟨i1, nm_r (e' := upd yf p (nI f)) (by rw [ee, Int32.neg_neg]) k⟩⟩
  · refine ⟨4, (nI T, nI P, nI C, nI Q, stl, cD, vd, eK, eD, eP, stt, nI O, tk, sa, sb, gK, gA, gB, cl, nC, dd, dp, dl, dm, pt, cO, cA, cB, cC, cx, cu, st, pd, pp, pa, pf, pv, es, ew, qh, qc, qk, qv, ou, cm), (nI T, nI P, nI C, nI Q, cD, vd, eK, eD, eP, stt, nI L.length, nI O, tk, sa, sb, eq, du, nx, dd, dp, dl, dm, pt, cd, ct, st, yd, yp, ya, yf, hel, mT, mK, mV, ou, eu, ev), fun j => zz_in hS hT hD hV hR, hs, fun post k => ?_, fun post k => ?_⟩
    · unfold wpX_stepLive
      refine HX _ ?_
      rw [r4]
      exact br_f (by decide) k
    · unfold wpY_step
      refine br_f hs ?_
      refine wy_in1 hp ?_
      refine br_f nu_10 ⟨i1, br_t (by rw [ee]; exact h1) ?_⟩
      refine HY _ ?_
      rw [y4]
      exact br_t (by decide) (br_f (by decide) (br_f (by decide) k))
  · refine ⟨5, (nI T, nI P, nI C, nI Q, stl, cD, vd, eK, eD, eP, stt, nI O, tk, sa, sb, gK, gA, gB, cl, nC, dd, dp, dl, dm, pt, cO, cA, cB, cC, cx, cu, st, pd, pp, pa, pf, pv, es, ew, qh, qc, qk, qv, ou, cm), (nI T, nI P, nI C, nI Q, cD, vd, eK, eD, eP, stt, nI L.length, nI O, tk, sa, sb, eq, du, nx, dd, dp, dl, dm, pt, cd, ct, st, yd, yp, ya, yf, hel, mT, mK, mV, ou, eu, ev), fun j => zz_in hS hT hD hV hR, hs, fun post k => ?_, fun post k => ?_⟩
    · unfold wpX_stepLive
      refine HX _ ?_
      rw [r5]
      exact br_f (by decide) k
    · unfold wpY_step
      refine br_f hs ?_
      refine wy_in1 hp ?_
      refine br_f nu_10 ⟨i1, br_t (by rw [ee]; exact h1) ?_⟩
      refine HY _ ?_
      rw [y5]
      exact br_t (by decide) (br_f (by decide) (br_f (by decide) k))
/-- the kind of a slot: 0 free, 1 faulted, 2 can step, 3 blocked, 4 no room -/
def kdx (st : Nat → Int32) (PX PY : (Int32 → Prop) → Prop) (p t : Nat) : Prop := (t = 0 ∧ st p = 0) ∨ (t = 1 ∧ ¬ st p = 0 ∧ ¬ st p = 1) ∨ (2 ≤ t ∧ t ≤ 4 ∧ st p = 1 ∧ ∃ r y : Int32, (∀ post : Int32 → Prop, post r → PX post) ∧ (∀ post : Int32 → Prop, post y → PY post) ∧ (t = 2 → 0 ≤ r ∧ (y < 0 ∨ y = 1 ∨ y = 2)) ∧ (t = 3 → r = -4 ∧ y = 4) ∧ (t = 4 → r = -5 ∧ y = 5))
theorem wb_kind (hS : zs P C Q O) (hT : zt T K A B tk sa sb cl stl) (hD : zd T dd dp dl dm pt cO cA cB cC cd cD) (hV : zv T K A B dd dp dl dm pt cO cA cB cC vd eK eD eP cx cu ct) (hR : zr T P C Q L stt dd dp dl dm cO cA cB cC st pd pp pa pf pv yd yp ya yf hel es ew qh qc qk qv mT mK mV) (hs : ¬ stt = 0) {p : Nat} (hp : p < P) : ∃ t, kdx st (fun post => wpX_probe post (nI T, nI P, nI C, nI Q, stl, cD, vd, eK, eD, eP, stt, nI O, tk, sa, sb, gK, gA, gB, cl, nC, dd, dp, dl, dm, pt, cO, cA, cB, cC, cx, cu, st, pd, pp, pa, pf, pv, es, ew, qh, qc, qk, qv, ou, cm) (nI p)) (fun post => wpY_look post (nI T, nI P, nI C, nI Q, cD, vd, eK, eD, eP, stt, nI L.length, nI O, tk, sa, sb, eq, du, nx, dd, dp, dl, dm, pt, cd, ct, st, yd, yp, ya, yf, hel, mT, mK, mV, ou, eu, ev) (nI p)) p t := by
  by_cases h0 : st p = 0
  · exact ⟨0, Or.inl ⟨rfl, h0⟩⟩
  · by_cases h1 : st p = 1
    · obtain ⟨d, i, n, l, hd, hdd, D, hm, hpd, hpp, hi, r, y, HX, HY, RL, G⟩ := wb_probe (T := T) (P := P) (C := C) (Q := Q) (O := O) (L := L) (stl := stl) (cD := cD) (vd := vd) (eK := eK) (eD := eD) (eP := eP) (stt := stt) (tk := tk) (sa := sa) (sb := sb) (gK := gK) (gA := gA) (gB := gB) (cl := cl) (nC := nC) (dd := dd) (dp := dp) (dl := dl) (dm := dm) (pt := pt) (cO := cO) (cA := cA) (cB := cB) (cC := cC) (cx := cx) (cu := cu) (st := st) (pd := pd) (pp := pp) (pa := pa) (pf := pf) (pv := pv) (es := es) (ew := ew) (qh := qh) (qc := qc) (qk := qk) (qv := qv) (ou := ou) (cm := cm) (eq := eq) (du := du) (nx := nx) (cd := cd) (ct := ct) (yd := yd) (yp := yp) (ya := ya) (yf := yf) (hel := hel) (mT := mT) (mK := mK) (mV := mV) (eu := eu) (ev := ev) hS hD hR hp h1 hs
      rcases RL with ⟨r0, yy⟩ | ⟨f, f1, f8, rf, yf'⟩ | ⟨r4, y4⟩ | ⟨r5, y5⟩
      · refine ⟨2, Or.inr (Or.inr ⟨by omega, by omega, h1, r, y, HX, HY, fun _ => ⟨by rw [r0]; decide, ?_⟩, fun q => by omega, fun q => by omega⟩)⟩
        rw [yy]
        by_cases q : dop cO d i = 0
        · rw [if_pos q]; exact Or.inr (Or.inr rfl)
        · rw [if_neg q]; exact Or.inr (Or.inl rfl)
      · refine ⟨2, Or.inr (Or.inr ⟨by omega, by omega, h1, r, y, HX, HY, fun _ => ⟨by rw [rf]; exact nI_pos' (by omega), Or.inl ?_⟩, fun q => by omega, fun q => by omega⟩)⟩
        have : ∀ f, f < 9 → 1 ≤ f → -nI f < 0 := by decide
        rw [yf']; exact this f (by omega) f1
      · exact ⟨3, Or.inr (Or.inr ⟨by omega, by omega, h1, r, y, HX, HY, fun q => by omega, fun _ => ⟨r4, y4⟩, fun q => by omega⟩)⟩
      · exact ⟨4, Or.inr (Or.inr ⟨by omega, by omega, h1, r, y, HX, HY, fun q => by omega, fun q => by omega, fun _ => ⟨r5, y5⟩⟩)⟩
    · exact ⟨1, Or.inr (Or.inl ⟨rfl, h0, h1⟩)⟩
theorem wb_kinds (hS : zs P C Q O) (hT : zt T K A B tk sa sb cl stl) (hD : zd T dd dp dl dm pt cO cA cB cC cd cD) (hV : zv T K A B dd dp dl dm pt cO cA cB cC vd eK eD eP cx cu ct) (hR : zr T P C Q L stt dd dp dl dm cO cA cB cC st pd pp pa pf pv yd yp ya yf hel es ew qh qc qk qv mT mK mV) (hs : ¬ stt = 0) : ∃ tf : Nat → Nat, ∀ p, p < P → kdx st (fun post => wpX_probe post (nI T, nI P, nI C, nI Q, stl, cD, vd, eK, eD, eP, stt, nI O, tk, sa, sb, gK, gA, gB, cl, nC, dd, dp, dl, dm, pt, cO, cA, cB, cC, cx, cu, st, pd, pp, pa, pf, pv, es, ew, qh, qc, qk, qv, ou, cm) (nI p)) (fun post => wpY_look post (nI T, nI P, nI C, nI Q, cD, vd, eK, eD, eP, stt, nI L.length, nI O, tk, sa, sb, eq, du, nx, dd, dp, dl, dm, pt, cd, ct, st, yd, yp, ya, yf, hel, mT, mK, mV, ou, eu, ev) (nI p)) p (tf p) := by
  refine ⟨fun p => @dite Nat (p < P) (Nat.decLt p P) (fun h => Classical.choose (wb_kind (T := T) (P := P) (C := C) (Q := Q) (O := O) (K := K) (A := A) (B := B) (L := L) (stl := stl) (cD := cD) (vd := vd) (eK := eK) (eD := eD) (eP := eP) (stt := stt) (tk := tk) (sa := sa) (sb := sb) (gK := gK) (gA := gA) (gB := gB) (cl := cl) (nC := nC) (dd := dd) (dp := dp) (dl := dl) (dm := dm) (pt := pt) (cO := cO) (cA := cA) (cB := cB) (cC := cC) (cx := cx) (cu := cu) (st := st) (pd := pd) (pp := pp) (pa := pa) (pf := pf) (pv := pv) (es := es) (ew := ew) (qh := qh) (qc := qc) (qk := qk) (qv := qv) (ou := ou) (cm := cm) (eq := eq) (du := du) (nx := nx) (cd := cd) (ct := ct) (yd := yd) (yp := yp) (ya := ya) (yf := yf) (hel := hel) (mT := mT) (mK := mK) (mV := mV) (eu := eu) (ev := ev) hS hT hD hV hR hs h)) (fun _ => 0), fun p hp => ?_⟩
  dsimp only
  rw [dif_pos hp]
  exact Classical.choose_spec (wb_kind (T := T) (P := P) (C := C) (Q := Q) (O := O) (K := K) (A := A) (B := B) (L := L) (stl := stl) (cD := cD) (vd := vd) (eK := eK) (eD := eD) (eP := eP) (stt := stt) (tk := tk) (sa := sa) (sb := sb) (gK := gK) (gA := gA) (gB := gB) (cl := cl) (nC := nC) (dd := dd) (dp := dp) (dl := dl) (dm := dm) (pt := pt) (cO := cO) (cA := cA) (cB := cB) (cC := cC) (cx := cx) (cu := cu) (st := st) (pd := pd) (pp := pp) (pa := pa) (pf := pf) (pv := pv) (es := es) (ew := ew) (qh := qh) (qc := qc) (qk := qk) (qv := qv) (ou := ou) (cm := cm) (eq := eq) (du := du) (nx := nx) (cd := cd) (ct := ct) (yd := yd) (yp := yp) (ya := ya) (yf := yf) (hel := hel) (mT := mT) (mK := mK) (mV := mV) (eu := eu) (ev := ev) hS hT hD hV hR hs hp)
end STP
theorem i_vc_step {k : Nat} {u : SX} {v : SY} (I : i_Rel k u v) (hk : k + 5 ≤ 2564) (v1 : Int32) : wpX_step (fun r u' => wpY_step (fun r' v' => r' = r ∧ i_Rel (k + 5) u' v') v v1) u v1 := by
  refine zz_el (R := fun u v => wpX_step (fun r u' => wpY_step (fun r' v' => r' = r ∧ i_Rel (k + 5) u' v') v v1) u v1) ?_ I
  intro T P C Q O K A B L stl cD vd eK eD eP stt tk sa sb gK gA gB cl nC dd dp dl dm pt cO cA cB cC cx cu st pd pp pa pf pv es ew qh qc qk qv ou cm eq du nx cd ct yd yp ya yf hel mT mK mV eu ev hS hT hD hV hR
  have J : i_Rel (k + 5) (nI T, nI P, nI C, nI Q, stl, cD, vd, eK, eD, eP, stt, nI O, tk, sa, sb, gK, gA, gB, cl, nC, dd, dp, dl, dm, pt, cO, cA, cB, cC, cx, cu, st, pd, pp, pa, pf, pv, es, ew, qh, qc, qk, qv, ou, cm) (nI T, nI P, nI C, nI Q, cD, vd, eK, eD, eP, stt, nI L.length, nI O, tk, sa, sb, eq, du, nx, dd, dp, dl, dm, pt, cd, ct, st, yd, yp, ya, yf, hel, mT, mK, mV, ou, eu, ev) := zz_in hS hT hD hV hR
  have P6 := hS.2.1
  unfold wpX_step
  by_cases hs : stt = 0
  · exact br_t hs (br_t hs ⟨rfl, J⟩)
  · refine br_f hs ?_
    rcases nu_cs v1 P (by omega) with ⟨p, p1, rfl⟩ | n1
    · have i1 : vp_in (nI p) 6 := vp_in_nI (by omega) (by decide)
      have ee : (nI p).toNatClampNeg = p := nI_clamp (by omega)
      refine wx_in1 p1 ?_
      refine br_f nu_10 ⟨i1, ?_⟩
      rw [ee]
      by_cases h1 : st p = 1
      · obtain ⟨a, u', v', R', S', HX, HY⟩ := wb_live (T := T) (P := P) (C := C) (Q := Q) (O := O) (K := K) (A := A) (B := B) (L := L) (stl := stl) (cD := cD) (vd := vd) (eK := eK) (eD := eD) (eP := eP) (stt := stt) (tk := tk) (sa := sa) (sb := sb) (gK := gK) (gA := gA) (gB := gB) (cl := cl) (nC := nC) (dd := dd) (dp := dp) (dl := dl) (dm := dm) (pt := pt) (cO := cO) (cA := cA) (cB := cB) (cC := cC) (cx := cx) (cu := cu) (st := st) (pd := pd) (pp := pp) (pa := pa) (pf := pf) (pv := pv) (es := es) (ew := ew) (qh := qh) (qc := qc) (qk := qk) (qv := qv) (ou := ou) (cm := cm) (eq := eq) (du := du) (nx := nx) (cd := cd) (ct := ct) (yd := yd) (yp := yp) (ya := ya) (yf := yf) (hel := hel) (mT := mT) (mK := mK) (mV := mV) (eu := eu) (ev := ev) hS hT hD hV hR hs p1 h1
        refine br_t h1 (HX _ ?_)
        exact HY _ ⟨rfl, R' _⟩
      · refine br_f h1 ?_
        unfold wpY_step
        refine br_f hs ?_
        refine wy_in1 p1 ?_
        refine br_f nu_10 ⟨i1, br_f (by rw [ee]; exact h1) ⟨rfl, J⟩⟩
    · refine wx_in0 n1 ?_
      refine br_t rfl ?_
      unfold wpY_step
      refine br_f hs ?_
      refine wy_in0 n1 ?_
      exact br_t rfl ⟨rfl, J⟩
end
section
section STA2
variable {tY pR cH cP stl cD vd eK eD eP stt oC mC : Int32} {tk sa sb gK gA gB cl nC dd dp dl dm pt cO cA cB cC cx cu st pd pp pa pf pv es ew qh qc qk qv ou cm eq du nx cd ct yd yp ya yf hel mT mK mV eu ev : Nat → Int32}
variable {T P C Q O : Nat} {K A B : Nat → Nat} {L : List MG} {tf : Nat → Nat}
/-! both: the state of a run, and runs -/
def afr (tf : Nat → Nat) : Nat → Bool
  | 0 => true
  | p + 1 => afr tf p && decide (tf p = 0)
def fur (tf : Nat → Nat) : Nat → Bool
  | 0 => false
  | p + 1 => fur tf p || decide (tf p = 4)
def stv (tf : Nat → Nat) (P : Nat) : Int32 := if afr tf P = true then 2 else if fur tf P = true then 3 else 4
def kdA (P : Nat) (st : Nat → Int32) (tf : Nat → Nat) (PX PY : Nat → (Int32 → Prop) → Prop) : Prop := ∀ p, p < P → kdx st (PX p) (PY p) p (tf p)
theorem afr_all : ∀ p, afr tf p = true ↔ ∀ q, q < p → tf q = 0 := by
  intro p
  induction p with
  | zero => exact ⟨fun _ q h => absurd h (Nat.not_lt_zero q), fun _ => rfl⟩
  | succ p ih =>
    rw [afr, Bool.and_eq_true, ih, decide_eq_true_iff]
    constructor
    · rintro ⟨a, b⟩ q hq
      by_cases e : q = p
      · rw [e]; exact b
      · exact a q (by omega)
    · intro h; exact ⟨fun q hq => h q (by omega), h p (by omega)⟩
theorem fur_ex : ∀ p, fur tf p = true ↔ ∃ q, q < p ∧ tf q = 4 := by
  intro p
  induction p with
  | zero => exact ⟨fun h => absurd h (by decide : ¬ false = true), fun ⟨q, h, _⟩ => absurd h (Nat.not_lt_zero q)⟩
  | succ p ih =>
    rw [fur, Bool.or_eq_true, ih, decide_eq_true_iff]
    constructor
    · rintro (⟨q, a, b⟩ | h)
      · exact ⟨q, by omega, b⟩
      · exact ⟨p, by omega, h⟩
    · rintro ⟨q, a, b⟩
      by_cases e : q = p
      · right; rw [← e]; exact b
      · left; exact ⟨q, by omega, b⟩
theorem wx_st15 {post : Int32 → Prop} {PY : Nat → (Int32 → Prop) → Prop} (hP : P ≤ 6) (kd : kdA P st tf (fun p post => wpX_probe post (tY, nI P, cH, cP, stl, cD, vd, eK, eD, eP, stt, oC, tk, sa, sb, gK, gA, gB, cl, nC, dd, dp, dl, dm, pt, cO, cA, cB, cC, cx, cu, st, pd, pp, pa, pf, pv, es, ew, qh, qc, qk, qv, ou, cm) (nI p)) PY) (k1 : (∃ p, p < P ∧ tf p = 2) → post 1) (k0 : (∀ p, p < P → ¬ tf p = 2) → post (stv tf P)) :
    ∀ n p, p ≤ P → P < n + p → (∀ q, q < p → ¬ tf q = 2) → wX_status_15 post tY (nI P) cH cP stl cD vd eK eD eP stt oC tk sa sb gK gA gB cl nC dd dp dl dm pt cO cA cB cC cx cu st pd pp pa pf pv es ew qh qc qk qv ou cm n (b1 (afr tf p)) (b1 (fur tf p)) (nI p) := by
  intro n
  induction n with
  | zero => intro p h1 h2; omega
  | succ n ih =>
    intro p h1 h2 I
    by_cases e : p = P
    · subst e
      have k0 := k0 I
      unfold stv at k0
      refine br_t (nI_le (Nat.le_refl _) (by omega)) ?_
      cases ha : afr tf p with
      | true => rw [ha, if_pos rfl] at k0; exact br_f nu_10 k0
      | false =>
        rw [ha, if_neg (by decide)] at k0
        refine br_t rfl ?_
        cases hf : fur tf p with
        | true => rw [hf, if_pos rfl] at k0; exact br_f nu_10 k0
        | false => rw [hf, if_neg (by decide)] at k0; exact br_t rfl k0
    · have i1 : vp_in (nI p) 6 := vp_in_nI (by omega) (by decide)
      have ee : (nI p).toNatClampNeg = p := nI_clamp (by omega)
      have nxt : ¬ tf p = 2 → wX_status_15 post tY (nI P) cH cP stl cD vd eK eD eP stt oC tk sa sb gK gA gB cl nC dd dp dl dm pt cO cA cB cC cx cu st pd pp pa pf pv es ew qh qc qk qv ou cm n (b1 (afr tf (p + 1))) (b1 (fur tf (p + 1))) (nI (p + 1)) := fun q => ih (p + 1) (by omega) (by omega) (fun j hj => by
        by_cases e : j = p
        · rw [e]; exact q
        · exact I j (by omega))
      refine br_f (nI_ge (by omega) (by omega)) ⟨i1, ?_⟩
      rw [ee]
      rcases kd p (by omega) with ⟨t0, s0⟩ | ⟨t1, s0, s1⟩ | ⟨t2, t4, s1, r, y, HX, _, K2, K3, K4⟩
      · have N := nxt (by omega)
        have ea : afr tf (p + 1) = afr tf p := by rw [afr, decide_eq_true t0, Bool.and_true]
        have ef : fur tf (p + 1) = fur tf p := by rw [fur, decide_eq_false (by omega), Bool.or_false]
        rw [ea, ef] at N
        refine br_t s0 ⟨i1, br_f (by rw [ee, s0]; decide) (nm_r (nI_1 p) N)⟩
      · have N := nxt (by omega)
        have ea : afr tf (p + 1) = false := by rw [afr, decide_eq_false (by omega), Bool.and_false]
        have ef : fur tf (p + 1) = fur tf p := by rw [fur, decide_eq_false (by omega), Bool.or_false]
        rw [ea, ef] at N
        exact br_f s0 ⟨i1, br_f (by rw [ee]; exact s1) (nm_r (nI_1 p) N)⟩
      · refine br_f (by rw [s1]; exact nu_10) ⟨i1, br_t (by rw [ee]; exact s1) ?_⟩
        refine HX _ ?_
        have ea : afr tf (p + 1) = false := by rw [afr, decide_eq_false (by omega), Bool.and_false]
        by_cases q2 : tf p = 2
        · exact br_f (Int32.not_lt.mpr (K2 q2).1) (k1 ⟨p, by omega, q2⟩)
        · have N := nxt q2
          rw [ea] at N
          by_cases q3 : tf p = 3
          · have ef : fur tf (p + 1) = fur tf p := by rw [fur, decide_eq_false (by omega), Bool.or_false]
            rw [ef] at N
            rw [(K3 q3).1]
            exact br_t (by decide) (br_f (by decide) (nm_r (nI_1 p) N))
          · have q4 : tf p = 4 := by clear K2 K3 K4; omega
            have ef : fur tf (p + 1) = true := by rw [fur, decide_eq_true q4, Bool.or_true]
            rw [ef] at N
            rw [(K4 q4).1]
            exact br_t (by decide) (br_t rfl (nm_r (nI_1 p) N))
/-- canStep by kinds -/
theorem wx_can {post : Int32 → Prop} {PY : Nat → (Int32 → Prop) → Prop} {p : Nat} (hp : p < 6) (kd : kdx st (fun post => wpX_probe post (tY, pR, cH, cP, stl, cD, vd, eK, eD, eP, stt, oC, tk, sa, sb, gK, gA, gB, cl, nC, dd, dp, dl, dm, pt, cO, cA, cB, cC, cx, cu, st, pd, pp, pa, pf, pv, es, ew, qh, qc, qk, qv, ou, cm) (nI p)) (PY p) p (tf p)) (k : post (b1 (decide (tf p = 2)))) : wpX_canStep post (tY, pR, cH, cP, stl, cD, vd, eK, eD, eP, stt, oC, tk, sa, sb, gK, gA, gB, cl, nC, dd, dp, dl, dm, pt, cO, cA, cB, cC, cx, cu, st, pd, pp, pa, pf, pv, es, ew, qh, qc, qk, qv, ou, cm) (nI p) := by
  have i1 : vp_in (nI p) 6 := vp_in_nI hp (by decide)
  have ee : (nI p).toNatClampNeg = p := nI_clamp (by omega)
  unfold wpX_canStep
  dsimp only
  rw [ee]
  refine ⟨i1, ?_⟩
  rcases kd with ⟨t0, s0⟩ | ⟨t1, s0, s1⟩ | ⟨t2, t4, s1, r, y, HX, _, K2, K3, K4⟩
  · rw [decide_eq_false (by omega)] at k
    exact br_f (by rw [s0]; decide) k
  · rw [decide_eq_false (by omega)] at k
    exact br_f s1 k
  · refine br_t s1 (HX _ ?_)
    by_cases q2 : tf p = 2
    · rw [decide_eq_true q2] at k
      exact br_f (Int32.not_lt.mpr (K2 q2).1) k
    · rw [decide_eq_false q2] at k
      refine br_t ?_ k
      by_cases q3 : tf p = 3
      · rw [(K3 q3).1]; decide
      · rw [(K4 (by clear K2 K3 K4; omega)).1]; decide
theorem wy_can {post : Int32 → Prop} {PX : Nat → (Int32 → Prop) → Prop} {p : Nat} (hp : p < 6) (kd : kdx st (PX p) (fun post => wpY_look post (tY, pR, cH, cP, cD, vd, eK, eD, eP, stt, mC, oC, tk, sa, sb, eq, du, nx, dd, dp, dl, dm, pt, cd, ct, st, yd, yp, ya, yf, hel, mT, mK, mV, ou, eu, ev) (nI p)) p (tf p)) (k : post (b1 (decide (tf p = 2)))) : wpY_canStep post (tY, pR, cH, cP, cD, vd, eK, eD, eP, stt, mC, oC, tk, sa, sb, eq, du, nx, dd, dp, dl, dm, pt, cd, ct, st, yd, yp, ya, yf, hel, mT, mK, mV, ou, eu, ev) (nI p) := by
  have i1 : vp_in (nI p) 6 := vp_in_nI hp (by decide)
  have ee : (nI p).toNatClampNeg = p := nI_clamp (by omega)
  unfold wpY_canStep
  dsimp only
  rw [ee]
  refine ⟨i1, ?_⟩
  rcases kd with ⟨t0, s0⟩ | ⟨t1, s0, s1⟩ | ⟨t2, t4, s1, r, y, _, HY, K2, K3, K4⟩
  · rw [decide_eq_false (by omega)] at k
    exact br_f (by rw [s0]; decide) k
  · rw [decide_eq_false (by omega)] at k
    exact br_f s1 k
  · refine br_t s1 (HY _ ?_)
    by_cases q2 : tf p = 2
    · rw [decide_eq_true q2] at k
      refine br_c (fun _ => k) (fun z => br_c (fun _ => k) (fun z1 => br_c (fun _ => k) (fun z2 => ?_)))
      rcases (K2 q2).2 with w | w | w
      · exact absurd w z
      · exact absurd w z1
      · exact absurd w z2
    · rw [decide_eq_false q2] at k
      by_cases q3 : tf p = 3
      · rw [(K3 q3).2]
        exact br_f (by decide) (br_f (by decide) (br_f (by decide) k))
      · rw [(K4 (by clear K2 K3 K4; omega)).2]
        exact br_f (by decide) (br_f (by decide) (br_f (by decide) k))
theorem wy_st73 {post : Int32 → Prop} {PX : Nat → (Int32 → Prop) → Prop} (hP : P ≤ 6) (kd : kdA P st tf PX (fun p post => wpY_look post (tY, nI P, cH, cP, cD, vd, eK, eD, eP, stt, mC, oC, tk, sa, sb, eq, du, nx, dd, dp, dl, dm, pt, cd, ct, st, yd, yp, ya, yf, hel, mT, mK, mV, ou, eu, ev) (nI p))) (n2 : ∀ p, p < P → ¬ tf p = 2) (k3 : (∃ p, p < P ∧ tf p = 4) → post 3) (k4 : (∀ p, p < P → ¬ tf p = 4) → post 4) :
    ∀ n p, p ≤ P → P < n + p → (∀ q, q < p → ¬ tf q = 4) → wY_status_73 post tY (nI P) cH cP cD vd eK eD eP stt mC oC tk sa sb eq du nx dd dp dl dm pt cd ct st yd yp ya yf hel mT mK mV ou eu ev n (nI p) := by
  intro n
  induction n with
  | zero => intro p h1 h2; omega
  | succ n ih =>
    intro p h1 h2 I
    by_cases e : p = P
    · subst e; exact br_t (nI_le (Nat.le_refl _) (by omega)) (k4 I)
    · have i1 : vp_in (nI p) 6 := vp_in_nI (by omega) (by decide)
      have ee : (nI p).toNatClampNeg = p := nI_clamp (by omega)
      have nxt : ¬ tf p = 4 → wY_status_73 post tY (nI P) cH cP cD vd eK eD eP stt mC oC tk sa sb eq du nx dd dp dl dm pt cd ct st yd yp ya yf hel mT mK mV ou eu ev n (nI (p + 1)) := fun q => ih (p + 1) (by omega) (by omega) (fun j hj => by
        by_cases e : j = p
        · rw [e]; exact q
        · exact I j (by omega))
      refine br_f (nI_ge (by omega) (by omega)) ⟨i1, ?_⟩
      rw [ee]
      rcases kd p (by omega) with ⟨t0, s0⟩ | ⟨t1, s0, s1⟩ | ⟨t2, t4, s1, r, y, _, HY, K2, K3, K4⟩
      · exact br_f (by rw [s0]; decide) (nm_r (nI_1 p) (nxt (by omega)))
      · exact br_f s1 (nm_r (nI_1 p) (nxt (by omega)))
      · refine br_t s1 (HY _ ?_)
        have q2 := n2 p (by omega)
        by_cases q3 : tf p = 3
        · rw [(K3 q3).2]
          exact br_f (by decide) (nm_r (nI_1 p) (nxt (by omega)))
        · have q4 : tf p = 4 := by clear K2 K3 K4; omega
          rw [(K4 q4).2]
          exact br_t rfl (k3 ⟨p, by omega, q4⟩)
theorem wy_st47 {post : Int32 → Prop} {PX : Nat → (Int32 → Prop) → Prop} (hP : P ≤ 6) (kd : kdA P st tf PX (fun p post => wpY_look post (tY, nI P, cH, cP, cD, vd, eK, eD, eP, stt, mC, oC, tk, sa, sb, eq, du, nx, dd, dp, dl, dm, pt, cd, ct, st, yd, yp, ya, yf, hel, mT, mK, mV, ou, eu, ev) (nI p))) (k1 : (∃ p, p < P ∧ tf p = 2) → post 1) (k3 : (∀ p, p < P → ¬ tf p = 2) → (∃ p, p < P ∧ tf p = 4) → post 3) (k4 : (∀ p, p < P → ¬ tf p = 2) → (∀ p, p < P → ¬ tf p = 4) → post 4) :
    ∀ n p, p ≤ P → P < n + p → (∀ q, q < p → ¬ tf q = 2) → wY_status_47 post tY (nI P) cH cP cD vd eK eD eP stt mC oC tk sa sb eq du nx dd dp dl dm pt cd ct st yd yp ya yf hel mT mK mV ou eu ev n (nI p) := by
  intro n
  induction n with
  | zero => intro p h1 h2; omega
  | succ n ih =>
    intro p h1 h2 I
    by_cases e : p = P
    · subst e
      exact br_t (nI_le (Nat.le_refl _) (by omega)) ⟨p + 1, wy_st73 hP kd I (k3 I) (k4 I) (p + 1) 0 (by omega) (by omega) (fun q hq => absurd hq (Nat.not_lt_zero q))⟩
    · refine br_f (nI_ge (by omega) (by omega)) (wy_can (by omega) (kd p (by omega)) ?_)
      by_cases q2 : tf p = 2
      · rw [decide_eq_true q2]; exact br_f nu_10 (k1 ⟨p, by omega, q2⟩)
      · rw [decide_eq_false q2]
        refine br_t rfl (nm_r (nI_1 p) (ih (p + 1) (by omega) (by omega) (fun j hj => ?_)))
        by_cases e : j = p
        · rw [e]; exact q2
        · exact I j (by omega)
theorem wy_st13 {post : Int32 → Prop} (hP : P ≤ 6) (k2 : (∀ p, p < P → st p = 0) → post 2) (k : (¬ ∀ p, p < P → st p = 0) → ∃ n, wY_status_47 post tY (nI P) cH cP cD vd eK eD eP stt mC oC tk sa sb eq du nx dd dp dl dm pt cd ct st yd yp ya yf hel mT mK mV ou eu ev n 0) :
    ∀ n p c, p ≤ P → P < n + p → c ≤ p → (c = 0 ↔ ∀ q, q < p → st q = 0) → wY_status_13 post tY (nI P) cH cP cD vd eK eD eP stt mC oC tk sa sb eq du nx dd dp dl dm pt cd ct st yd yp ya yf hel mT mK mV ou eu ev n (nI c) (nI p) := by
  intro n
  induction n with
  | zero => intro p c h1 h2; omega
  | succ n ih =>
    intro p c h1 h2 h3 I
    by_cases e : p = P
    · subst e
      refine br_t (nI_le (Nat.le_refl _) (by omega)) (pk_eq c 0 (fun z => k2 (I.mp z)) (fun z => k (fun q => z (I.mpr q))))
    · have i1 : vp_in (nI p) 6 := vp_in_nI (by omega) (by decide)
      have ee : (nI p).toNatClampNeg = p := nI_clamp (by omega)
      refine br_f (nI_ge (by omega) (by omega)) ⟨i1, ?_⟩
      rw [ee]
      refine br_c (fun z => nm_r (nI_1 p) (ih (p + 1) c (by omega) (by omega) (by omega) ?_)) (fun z => nm_r (nI_1 c) (nm_r (nI_1 p) (ih (p + 1) (c + 1) (by omega) (by omega) (by omega) ?_)))
      · rw [I]
        constructor
        · intro h q hq
          by_cases e : q = p
          · rw [e]; exact z
          · exact h q (by omega)
        · intro h q hq; exact h q (by omega)
      · constructor
        · intro h; omega
        · intro h; exact absurd (h p (by omega)) z
end STA2
theorem i_vc_status {k : Nat} {u : SX} {v : SY} (I : i_Rel k u v) (hk : k + 5 ≤ 2564) : wpX_status (fun r => wpY_status (fun r' => r' = r ∧ i_Rel (k + 5) u v) v) u := by
  refine zz_el (R := fun u v => wpX_status (fun r => wpY_status (fun r' => r' = r ∧ i_Rel (k + 5) u v) v) u) ?_ I
  intro T P C Q O K A B L stl cD vd eK eD eP stt tk sa sb gK gA gB cl nC dd dp dl dm pt cO cA cB cC cx cu st pd pp pa pf pv es ew qh qc qk qv ou cm eq du nx cd ct yd yp ya yf hel mT mK mV eu ev hS hT hD hV hR
  have J : i_Rel (k + 5) (nI T, nI P, nI C, nI Q, stl, cD, vd, eK, eD, eP, stt, nI O, tk, sa, sb, gK, gA, gB, cl, nC, dd, dp, dl, dm, pt, cO, cA, cB, cC, cx, cu, st, pd, pp, pa, pf, pv, es, ew, qh, qc, qk, qv, ou, cm) (nI T, nI P, nI C, nI Q, cD, vd, eK, eD, eP, stt, nI L.length, nI O, tk, sa, sb, eq, du, nx, dd, dp, dl, dm, pt, cd, ct, st, yd, yp, ya, yf, hel, mT, mK, mV, ou, eu, ev) := zz_in hS hT hD hV hR
  have P6 := hS.2.1
  by_cases hs : stt = 0
  · exact br_t hs (br_t hs ⟨rfl, J⟩)
  · refine br_f hs ⟨P + 1, ?_⟩
    obtain ⟨tf, kd⟩ := wb_kinds (T := T) (P := P) (C := C) (Q := Q) (O := O) (K := K) (A := A) (B := B) (L := L) (stl := stl) (cD := cD) (vd := vd) (eK := eK) (eD := eD) (eP := eP) (stt := stt) (tk := tk) (sa := sa) (sb := sb) (gK := gK) (gA := gA) (gB := gB) (cl := cl) (nC := nC) (dd := dd) (dp := dp) (dl := dl) (dm := dm) (pt := pt) (cO := cO) (cA := cA) (cB := cB) (cC := cC) (cx := cx) (cu := cu) (st := st) (pd := pd) (pp := pp) (pa := pa) (pf := pf) (pv := pv) (es := es) (ew := ew) (qh := qh) (qc := qc) (qk := qk) (qv := qv) (ou := ou) (cm := cm) (eq := eq) (du := du) (nx := nx) (cd := cd) (ct := ct) (yd := yd) (yp := yp) (ya := ya) (yf := yf) (hel := hel) (mT := mT) (mK := mK) (mV := mV) (eu := eu) (ev := ev) hS hT hD hV hR hs
    have al : (∀ p, p < P → st p = 0) ↔ afr tf P = true := by
      rw [afr_all]
      constructor
      · intro h p hp
        rcases kd p hp with ⟨t0, _⟩ | ⟨_, s0, _⟩ | ⟨_, _, s1, _⟩
        · exact t0
        · exact absurd (h p hp) s0
        · rw [h p hp] at s1; exact absurd s1 (by decide)
      · intro h p hp
        have h0 := h p hp
        rcases kd p hp with ⟨_, s0⟩ | ⟨t1, _⟩ | ⟨t2, _⟩
        · exact s0
        · omega
        · omega
    have Y : ∀ r : Int32, ((∃ p, p < P ∧ tf p = 2) → r = 1) → ((∀ p, p < P → ¬ tf p = 2) → r = stv tf P) → wpY_status (fun r' => r' = r ∧ i_Rel (k + 5) (nI T, nI P, nI C, nI Q, stl, cD, vd, eK, eD, eP, stt, nI O, tk, sa, sb, gK, gA, gB, cl, nC, dd, dp, dl, dm, pt, cO, cA, cB, cC, cx, cu, st, pd, pp, pa, pf, pv, es, ew, qh, qc, qk, qv, ou, cm) (nI T, nI P, nI C, nI Q, cD, vd, eK, eD, eP, stt, nI L.length, nI O, tk, sa, sb, eq, du, nx, dd, dp, dl, dm, pt, cd, ct, st, yd, yp, ya, yf, hel, mT, mK, mV, ou, eu, ev)) (nI T, nI P, nI C, nI Q, cD, vd, eK, eD, eP, stt, nI L.length, nI O, tk, sa, sb, eq, du, nx, dd, dp, dl, dm, pt, cd, ct, st, yd, yp, ya, yf, hel, mT, mK, mV, ou, eu, ev) := fun r r1 r0 => by
      have g2 : (∀ p, p < P → st p = 0) → (2 : Int32) = r := fun h => by
        have a := al.mp h
        have n2 : ∀ p, p < P → ¬ tf p = 2 := fun p hp q => by have := (afr_all P).mp a p hp; omega
        rw [r0 n2]; unfold stv; rw [if_pos a]
      have g3 : (¬ ∀ p, p < P → st p = 0) → (∀ p, p < P → ¬ tf p = 2) → (∃ p, p < P ∧ tf p = 4) → (3 : Int32) = r := fun h n2 q => by
        have a : ¬ afr tf P = true := fun q => h (al.mpr q)
        rw [r0 n2]; unfold stv; rw [if_neg a, if_pos ((fur_ex P).mpr q)]
      have g4 : (¬ ∀ p, p < P → st p = 0) → (∀ p, p < P → ¬ tf p = 2) → (∀ p, p < P → ¬ tf p = 4) → (4 : Int32) = r := fun h n2 q => by
        have a : ¬ afr tf P = true := fun q => h (al.mpr q)
        rw [r0 n2]; unfold stv; rw [if_neg a, if_neg (fun w => by obtain ⟨p, p1, p2⟩ := (fur_ex P).mp w; exact q p p1 p2)]
      exact br_f hs ⟨P + 1, wy_st13 (post := fun r' => r' = r ∧ i_Rel (k + 5) (nI T, nI P, nI C, nI Q, stl, cD, vd, eK, eD, eP, stt, nI O, tk, sa, sb, gK, gA, gB, cl, nC, dd, dp, dl, dm, pt, cO, cA, cB, cC, cx, cu, st, pd, pp, pa, pf, pv, es, ew, qh, qc, qk, qv, ou, cm) (nI T, nI P, nI C, nI Q, cD, vd, eK, eD, eP, stt, nI L.length, nI O, tk, sa, sb, eq, du, nx, dd, dp, dl, dm, pt, cd, ct, st, yd, yp, ya, yf, hel, mT, mK, mV, ou, eu, ev)) P6 (fun h => ⟨g2 h, J⟩) (fun h => ⟨P + 1, wy_st47 (post := fun r' => r' = r ∧ i_Rel (k + 5) (nI T, nI P, nI C, nI Q, stl, cD, vd, eK, eD, eP, stt, nI O, tk, sa, sb, gK, gA, gB, cl, nC, dd, dp, dl, dm, pt, cO, cA, cB, cC, cx, cu, st, pd, pp, pa, pf, pv, es, ew, qh, qc, qk, qv, ou, cm) (nI T, nI P, nI C, nI Q, cD, vd, eK, eD, eP, stt, nI L.length, nI O, tk, sa, sb, eq, du, nx, dd, dp, dl, dm, pt, cd, ct, st, yd, yp, ya, yf, hel, mT, mK, mV, ou, eu, ev)) P6 kd (fun q => ⟨(r1 q).symm, J⟩) (fun n2 q => ⟨g3 h n2 q, J⟩) (fun n2 q => ⟨g4 h n2 q, J⟩) (P + 1) 0 (by omega) (by omega) (fun q hq => absurd hq (Nat.not_lt_zero q))⟩) (P + 1) 0 0 (by omega) (by omega) (by omega) ⟨fun _ q hq => absurd hq (Nat.not_lt_zero q), fun _ => rfl⟩⟩
    exact wx_st15 P6 kd (fun q => Y 1 (fun _ => rfl) (fun n2 => by obtain ⟨p, p1, p2⟩ := q; exact absurd p2 (n2 p p1))) (fun n2 => Y _ (fun q => by obtain ⟨p, p1, p2⟩ := q; exact absurd p2 (n2 p p1)) (fun _ => rfl)) (P + 1) 0 (by omega) (by omega) (fun q hq => absurd hq (Nat.not_lt_zero q))
end
section
/-! both: runs -/
def cnr (tf : Nat → Nat) : Nat → Nat
  | 0 => 0
  | p + 1 => cnr tf p + (if tf p = 2 then 1 else 0)
theorem cnr_t {tf : Nat → Nat} {p : Nat} (h : tf p = 2) : cnr tf (p + 1) = cnr tf p + 1 := by rw [cnr, if_pos h]
theorem cnr_f {tf : Nat → Nat} {p : Nat} (h : ¬ tf p = 2) : cnr tf (p + 1) = cnr tf p := by rw [cnr, if_neg h, Nat.add_zero]
theorem cnr_le (tf : Nat → Nat) : ∀ p, cnr tf p ≤ p := by
  intro p
  induction p with
  | zero => exact Nat.le_refl _
  | succ p ih =>
    by_cases h : tf p = 2
    · rw [cnr_t h]; omega
    · rw [cnr_f h]; omega
theorem cnr_mono (tf : Nat → Nat) (p : Nat) : ∀ d, cnr tf p ≤ cnr tf (p + d) := by
  intro d
  induction d with
  | zero => exact Nat.le_refl _
  | succ d ih =>
    have : cnr tf (p + d) ≤ cnr tf (p + d + 1) := by
      by_cases h : tf (p + d) = 2
      · rw [cnr_t h]; omega
      · rw [cnr_f h]; omega
    exact Nat.le_trans ih this
theorem cnr_lt {tf : Nat → Nat} {p q : Nat} (h : p < q) (hp : tf p = 2) : cnr tf p < cnr tf q := by
  have a := cnr_mono tf (p + 1) (q - (p + 1))
  rw [show p + 1 + (q - (p + 1)) = q by omega, cnr_t hp] at a
  omega
theorem cnr_nth {tf : Nat → Nat} {k : Nat} : ∀ p, k < cnr tf p → ∃ q, q < p ∧ tf q = 2 ∧ cnr tf q = k := by
  intro p
  induction p with
  | zero => intro h; exact absurd h (Nat.not_lt_zero k)
  | succ p ih =>
    intro h
    by_cases h2 : tf p = 2
    · rw [cnr_t h2] at h
      by_cases e : k = cnr tf p
      · exact ⟨p, by omega, h2, e.symm⟩
      · obtain ⟨q, a, b, c⟩ := ih (by omega)
        exact ⟨q, by omega, b, c⟩
    · rw [cnr_f h2] at h
      obtain ⟨q, a, b, c⟩ := ih h
      exact ⟨q, by omega, b, c⟩
theorem ru_w (s : Int32) : ∃ w, w < 65536 ∧ (s.toUInt32 >>> ((16 : Int32).toUInt32 &&& Int32.toUInt32 31)).toInt32 = nI w := by
  have hl := s.toBitVec.isLt
  refine ⟨s.toBitVec.toNat / 2 ^ 16, by omega, ?_⟩
  refine Int32.toBitVec_inj.mp (BitVec.eq_of_toNat_eq ?_)
  rw [pk_ushr s 16 16 (by decide), pk_tn (by omega)]
theorem ru_s0 : ∀ a, a < 7 → ∀ b, b < 7 → (nI a - nI b = 0 ↔ a = b) := by decide +kernel
theorem ru_s1 : ∀ a, a < 7 → ∀ b, b < 7 → nI a - nI b + (-1) = nI a - nI (b + 1) := by decide +kernel
section RUN
variable {tY pR cH cP stl cD vd eK eD eP stt oC mC : Int32} {tk sa sb gK gA gB cl nC dd dp dl dm pt cO cA cB cC cx cu st pd pp pa pf pv es ew qh qc qk qv ou cm eq du nx cd ct yd yp ya yf hel mT mK mV eu ev : Nat → Int32}
variable {T P C Q O : Nat} {K A B : Nat → Nat} {L : List MG} {tf : Nat → Nat}
def rX27 (post : Int32 → SX → Prop) (x3 : Int32) (n : Nat) (x4 x5 x6 : Int32) (u : SX) : Prop := match u with
  | (tY, pR, cH, cP, stl, cD, vd, eK, eD, eP, stt, oC, tk, sa, sb, gK, gA, gB, cl, nC, dd, dp, dl, dm, pt, cO, cA, cB, cC, cx, cu, st, pd, pp, pa, pf, pv, es, ew, qh, qc, qk, qv, ou, cm) => wX_run_27 post x3 n x4 x5 x6 tY pR cH cP stl cD vd eK eD eP stt oC tk sa sb gK gA gB cl nC dd dp dl dm pt cO cA cB cC cx cu st pd pp pa pf pv es ew qh qc qk qv ou cm
def rY24 (post : Int32 → SY → Prop) (x4 : Int32) (n : Nat) (x3 x5 : Int32) (v : SY) : Prop := match v with
  | (tY, pR, cH, cP, cD, vd, eK, eD, eP, stt, mC, oC, tk, sa, sb, eq, du, nx, dd, dp, dl, dm, pt, cd, ct, st, yd, yp, ya, yf, hel, mT, mK, mV, ou, eu, ev) => wY_run_24 post x4 n x3 x5 tY pR cH cP cD vd eK eD eP stt mC oC tk sa sb eq du nx dd dp dl dm pt cd ct st yd yp ya yf hel mT mK mV ou eu ev
theorem rX_go {post : Int32 → SX → Prop} {x3 : Int32} {n : Nat} {x4 x5 x6 : Int32} {G : SX → Prop} (k : ∀ (tY pR cH cP stl cD vd eK eD eP stt oC : Int32) (tk sa sb gK gA gB cl nC dd dp dl dm pt cO cA cB cC cx cu st pd pp pa pf pv es ew qh qc qk qv ou cm : Nat → Int32), wX_run_27 post x3 n x4 x5 x6 tY pR cH cP stl cD vd eK eD eP stt oC tk sa sb gK gA gB cl nC dd dp dl dm pt cO cA cB cC cx cu st pd pp pa pf pv es ew qh qc qk qv ou cm → G (tY, pR, cH, cP, stl, cD, vd, eK, eD, eP, stt, oC, tk, sa, sb, gK, gA, gB, cl, nC, dd, dp, dl, dm, pt, cO, cA, cB, cC, cx, cu, st, pd, pp, pa, pf, pv, es, ew, qh, qc, qk, qv, ou, cm)) : ∀ u : SX, rX27 post x3 n x4 x5 x6 u → G u
  | (tY, pR, cH, cP, stl, cD, vd, eK, eD, eP, stt, oC, tk, sa, sb, gK, gA, gB, cl, nC, dd, dp, dl, dm, pt, cO, cA, cB, cC, cx, cu, st, pd, pp, pa, pf, pv, es, ew, qh, qc, qk, qv, ou, cm), h => k tY pR cH cP stl cD vd eK eD eP stt oC tk sa sb gK gA gB cl nC dd dp dl dm pt cO cA cB cC cx cu st pd pp pa pf pv es ew qh qc qk qv ou cm h
theorem rY_go {post : Int32 → SY → Prop} {x4 : Int32} {n : Nat} {x3 x5 : Int32} {G : SY → Prop} (k : ∀ (tY pR cH cP cD vd eK eD eP stt mC oC : Int32) (tk sa sb eq du nx dd dp dl dm pt cd ct st yd yp ya yf hel mT mK mV ou eu ev : Nat → Int32), wY_run_24 post x4 n x3 x5 tY pR cH cP cD vd eK eD eP stt mC oC tk sa sb eq du nx dd dp dl dm pt cd ct st yd yp ya yf hel mT mK mV ou eu ev → G (tY, pR, cH, cP, cD, vd, eK, eD, eP, stt, mC, oC, tk, sa, sb, eq, du, nx, dd, dp, dl, dm, pt, cd, ct, st, yd, yp, ya, yf, hel, mT, mK, mV, ou, eu, ev)) : ∀ u : SY, rY24 post x4 n x3 x5 u → G u
  | (tY, pR, cH, cP, cD, vd, eK, eD, eP, stt, mC, oC, tk, sa, sb, eq, du, nx, dd, dp, dl, dm, pt, cd, ct, st, yd, yp, ya, yf, hel, mT, mK, mV, ou, eu, ev), h => k tY pR cH cP cD vd eK eD eP stt mC oC tk sa sb eq du nx dd dp dl dm pt cd ct st yd yp ya yf hel mT mK mV ou eu ev h
theorem wx_nb {post : Int32 → Prop} (hP : P ≤ 6) {k q : Nat} (q1 : q < P) (q2 : tf q = 2) (q3 : cnr tf q = k) (kk : post (nI q)) :
    ∀ n p, p ≤ q → q < n + p → wX_nthBit_5 post (nI (bm_m (fun p => decide (tf p = 2)) P)) tY (nI P) cH cP stl cD vd eK eD eP stt oC tk sa sb gK gA gB cl nC dd dp dl dm pt cO cA cB cC cx cu st pd pp pa pf pv es ew qh qc qk qv ou cm n (nI (k - cnr tf p)) (nI p) := by
  have hm : bm_m (fun p => decide (tf p = 2)) P < 64 := Nat.lt_of_lt_of_le (bm_m_lt _ P) (Nat.pow_le_pow_right (by decide) hP)
  intro n
  induction n with
  | zero => intro p h1 h2; omega
  | succ n ih =>
    intro p h1 h2
    have bt := bm_m_tb (fun p => decide (tf p = 2)) P p (by omega)
    refine br_f (nI_ge (by omega) (by omega)) ?_
    by_cases e : p = q
    · subst e
      refine br_t ((bm_b1 (by omega) hm).mpr (by rw [bt]; exact decide_eq_true q2)) (br_t ?_ kk)
      rw [q3, Nat.sub_self]; rfl
    · by_cases z : tf p = 2
      · have l := cnr_lt (show p < q by omega) z
        refine br_t ((bm_b1 (by omega) hm).mpr (by rw [bt]; exact decide_eq_true z)) (br_f (nI_ne0 (by omega) (by have := cnr_le tf q; omega)) (nm_r (nu_m1 (by omega)) (nm_r (nI_1 p) ?_)))
        have N := ih (p + 1) (by omega) (by omega)
        rw [cnr_t z] at N
        exact N
      · refine br_f (fun w => ?_) (nm_r (nI_1 p) ?_)
        · have w := (bm_b1 (by omega) hm).mp w
          rw [bt] at w; exact z (of_decide_eq_true w)
        · have N := ih (p + 1) (by omega) (by omega)
          rw [cnr_f z] at N
          exact N
theorem wx_ru42 {post : Int32 → SX → Prop} {N s x5 x6 : Int32} {m : Nat} {PY : Nat → (Int32 → Prop) → Prop} (hP : P ≤ 6) (kd : kdA P st tf (fun p post => wpX_probe post (tY, nI P, cH, cP, stl, cD, vd, eK, eD, eP, stt, oC, tk, sa, sb, gK, gA, gB, cl, nC, dd, dp, dl, dm, pt, cO, cA, cB, cC, cx, cu, st, pd, pp, pa, pf, pv, es, ew, qh, qc, qk, qv, ou, cm) (nI p)) PY)
    (fin : ∀ n, wX_run_42 post (wX_run_27 post N m) N s x5 x6 tY (nI P) cH cP stl cD vd eK eD eP stt oC tk sa sb gK gA gB cl nC dd dp dl dm pt cO cA cB cC cx cu st pd pp pa pf pv es ew qh qc qk qv ou cm (n + 1) (nI (bm_m (fun p => decide (tf p = 2)) P)) (nI (cnr tf P)) (nI P)) :
    ∀ n p, p ≤ P → P < n + p → wX_run_42 post (wX_run_27 post N m) N s x5 x6 tY (nI P) cH cP stl cD vd eK eD eP stt oC tk sa sb gK gA gB cl nC dd dp dl dm pt cO cA cB cC cx cu st pd pp pa pf pv es ew qh qc qk qv ou cm n (nI (bm_m (fun p => decide (tf p = 2)) p)) (nI (cnr tf p)) (nI p) := by
  intro n
  induction n with
  | zero => intro p h1 h2; omega
  | succ n ih =>
    intro p h1 h2
    by_cases e : p = P
    · rw [e]; exact fin n
    · refine br_f (nI_ge (by omega) (by omega)) (wx_can (by omega) (kd p (by omega)) ?_)
      have M := ih (p + 1) (by omega) (by omega)
      have ml : bm_m (fun p => decide (tf p = 2)) p < 2 ^ p := bm_m_lt _ p
      have m64 : bm_m (fun p => decide (tf p = 2)) p < 64 := Nat.lt_of_lt_of_le ml (Nat.pow_le_pow_right (n := 2) (by decide) (show p ≤ 6 by omega))
      by_cases z : tf p = 2
      · have em : bm_m (fun p => decide (tf p = 2)) (p + 1) = bm_m (fun p => decide (tf p = 2)) p + 2 ^ p := by
          rw [bm_m, decide_eq_true z, if_pos rfl]
        rw [cnr_t z, em] at M
        rw [decide_eq_true z]
        exact br_f nu_10 (nm_r (bm_or p (by omega) _ m64 ml) (nm_r (nI_1 _) (nm_r (nI_1 p) M)))
      · have em : bm_m (fun p => decide (tf p = 2)) (p + 1) = bm_m (fun p => decide (tf p = 2)) p := by
          rw [bm_m, decide_eq_false z, if_neg (by decide), Nat.add_zero]
        rw [cnr_f z, em] at M
        rw [decide_eq_false z]
        exact br_t rfl (nm_r (nI_1 p) M)
theorem wx_ru_z {post : Int32 → SX → Prop} {N s x5 x6 x7 : Int32} {m : Nat} (c0 : cnr tf P = 0) (h : post x5 (tY, nI P, cH, cP, stl, cD, vd, eK, eD, eP, stt, oC, tk, sa, sb, gK, gA, gB, cl, nC, dd, dp, dl, dm, pt, cO, cA, cB, cC, cx, cu, st, pd, pp, pa, pf, pv, es, ew, qh, qc, qk, qv, ou, cm)) : ∀ n, wX_run_42 post (wX_run_27 post N m) N s x5 x6 tY (nI P) cH cP stl cD vd eK eD eP stt oC tk sa sb gK gA gB cl nC dd dp dl dm pt cO cA cB cC cx cu st pd pp pa pf pv es ew qh qc qk qv ou cm (n + 1) x7 (nI (cnr tf P)) (nI P) := by
  intro n
  rw [c0]
  exact br_t (Int32.le_refl _) (br_t rfl h)
theorem wx_ru_q {post : Int32 → SX → Prop} {N s a : Int32} {m t w q : Nat} {u' : SX} (hP : P ≤ 6) (c0 : ¬ cnr tf P = 0) (w1 : w < 65536) (hw : ((s * 1103515245 + 12345).toUInt32 >>> ((16 : Int32).toUInt32 &&& Int32.toUInt32 31)).toInt32 = nI w) (q1 : q < P) (q2 : tf q = 2) (q3 : cnr tf q = w % cnr tf P) (HX : ∀ post : Int32 → SX → Prop, post a u' → wpX_stepLive post (tY, nI P, cH, cP, stl, cD, vd, eK, eD, eP, stt, oC, tk, sa, sb, gK, gA, gB, cl, nC, dd, dp, dl, dm, pt, cO, cA, cB, cC, cx, cu, st, pd, pp, pa, pf, pv, es, ew, qh, qc, qk, qv, ou, cm) (nI q)) (h : rX27 post N m (s * 1103515245 + 12345) (nI (t + 1)) (nI (t + 1)) u') :
    ∀ n, wX_run_42 post (wX_run_27 post N m) N s (nI t) (nI t) tY (nI P) cH cP stl cD vd eK eD eP stt oC tk sa sb gK gA gB cl nC dd dp dl dm pt cO cA cB cC cx cu st pd pp pa pf pv es ew qh qc qk qv ou cm (n + 1) (nI (bm_m (fun p => decide (tf p = 2)) P)) (nI (cnr tf P)) (nI P) := by
  intro n
  have cl := cnr_le tf P
  have c1 : ¬ nI (cnr tf P) = 0 := nI_ne0 (by omega) (by omega)
  refine br_t (Int32.le_refl _) (br_f c1 (nm_r rfl ⟨c1, nm_r ?_ ⟨P + 1, wx_nb (k := w % cnr tf P) hP q1 q2 q3 (HX _ ?_) (P + 1) 0 (by omega) (by omega)⟩⟩))
  · rw [hw, pk_rem (by omega) (by omega) (by omega)]; rfl
  · refine rX_go (G := fun u => match u with | (tY, pR, cH, cP, stl, cD, vd, eK, eD, eP, stt, oC, tk, sa, sb, gK, gA, gB, cl, nC, dd, dp, dl, dm, pt, cO, cA, cB, cC, cx, cu, st, pd, pp, pa, pf, pv, es, ew, qh, qc, qk, qv, ou, cm) => ∀ x5 : Int32, x5 = nI t + 1 → ∀ x6 : Int32, x6 = nI t + 1 → wX_run_27 post N m (s * 1103515245 + 12345) x5 x6 tY pR cH cP stl cD vd eK eD eP stt oC tk sa sb gK gA gB cl nC dd dp dl dm pt cO cA cB cC cx cu st pd pp pa pf pv es ew qh qc qk qv ou cm) ?_ u' h
    intro tY pR cH cP stl cD vd eK eD eP stt oC tk sa sb gK gA gB cl nC dd dp dl dm pt cO cA cB cC cx cu st pd pp pa pf pv es ew qh qc qk qv ou cm
    intro hh
    exact nm_r (nI_1 t) (nm_r (nI_1 t) hh)
theorem wy_ru96 {post : Int32 → SY → Prop} {N s a : Int32} {m t k q : Nat} {v' : SY} {PX : Nat → (Int32 → Prop) → Prop} (hP : P ≤ 6) (kd : kdA P st tf PX (fun p post => wpY_look post (tY, nI P, cH, cP, cD, vd, eK, eD, eP, stt, mC, oC, tk, sa, sb, eq, du, nx, dd, dp, dl, dm, pt, cd, ct, st, yd, yp, ya, yf, hel, mT, mK, mV, ou, eu, ev) (nI p))) (q1 : q < P) (q2 : tf q = 2) (q3 : cnr tf q = k) (HY : ∀ post : Int32 → SY → Prop, post a v' → wpY_step post (tY, nI P, cH, cP, cD, vd, eK, eD, eP, stt, mC, oC, tk, sa, sb, eq, du, nx, dd, dp, dl, dm, pt, cd, ct, st, yd, yp, ya, yf, hel, mT, mK, mV, ou, eu, ev) (nI q)) (h : rY24 post N m s (nI (t + 1)) v') :
    ∀ n p, p ≤ P → P < n + p → wY_run_96 post (wY_run_24 post N m) s N (nI t) tY (nI P) cH cP cD vd eK eD eP stt mC oC tk sa sb eq du nx dd dp dl dm pt cd ct st yd yp ya yf hel mT mK mV ou eu ev n (if q < p then nI q else -1) (nI k - nI (cnr tf p)) (nI p) := by
  intro n
  induction n with
  | zero => intro p h1 h2; omega
  | succ n ih =>
    intro p h1 h2
    have kl := cnr_le tf q
    by_cases e : p = P
    · subst e
      rw [if_pos q1]
      refine br_t (Int32.le_refl _) (HY _ ?_)
      refine rY_go (G := fun u => match u with | (tY, pR, cH, cP, cD, vd, eK, eD, eP, stt, mC, oC, tk, sa, sb, eq, du, nx, dd, dp, dl, dm, pt, cd, ct, st, yd, yp, ya, yf, hel, mT, mK, mV, ou, eu, ev) => ∀ x5 : Int32, x5 = nI t + 1 → wY_run_24 post N m s x5 tY pR cH cP cD vd eK eD eP stt mC oC tk sa sb eq du nx dd dp dl dm pt cd ct st yd yp ya yf hel mT mK mV ou eu ev) ?_ v' h
      intro tY pR cH cP cD vd eK eD eP stt mC oC tk sa sb eq du nx dd dp dl dm pt cd ct st yd yp ya yf hel mT mK mV ou eu ev
      intro hh
      exact nm_r (nI_1 t) hh
    · have pl := cnr_le tf p
      have M := ih (p + 1) (by omega) (by omega)
      refine br_f (nI_ge (by omega) (by omega)) (wy_can (by omega) (kd p (by omega)) ?_)
      by_cases z : tf p = 2
      · rw [decide_eq_true z]
        rw [cnr_t z] at M
        by_cases e : p = q
        · subst e
          rw [if_pos (Nat.lt_succ_self p)] at M
          exact br_f nu_10 (br_t ((ru_s0 k (by omega) _ (by omega)).mpr q3.symm) (nm_r (ru_s1 k (by omega) _ (by omega)) (nm_r (nI_1 p) M)))
        · have ei : (if q < p + 1 then nI q else -1) = (if q < p then nI q else -1) := by
            by_cases l : q < p
            · rw [if_pos l, if_pos (by omega)]
            · rw [if_neg l, if_neg (by omega)]
          rw [ei] at M
          refine br_f nu_10 (br_f (fun w => ?_) (nm_r (ru_s1 k (by omega) _ (by omega)) (nm_r (nI_1 p) M)))
          have w := (ru_s0 k (by omega) _ (by omega)).mp w
          by_cases l : q < p
          · have := cnr_lt l q2; omega
          · have := cnr_lt (show p < q by omega) z; omega
      · have ei : (if q < p + 1 then nI q else -1) = (if q < p then nI q else -1) := by
          by_cases l : q < p
          · rw [if_pos l, if_pos (by omega)]
          · have : ¬ p = q := fun w => z (by rw [w]; exact q2)
            rw [if_neg l, if_neg (by omega)]
        rw [cnr_f z, ei] at M
        rw [decide_eq_false z]
        exact br_t rfl (nm_r (nI_1 p) M)
theorem wy_ru40 {post : Int32 → SY → Prop} {N s x5 x7 : Int32} {m : Nat} {PX : Nat → (Int32 → Prop) → Prop} (hP : P ≤ 6) (kd : kdA P st tf PX (fun p post => wpY_look post (tY, nI P, cH, cP, cD, vd, eK, eD, eP, stt, mC, oC, tk, sa, sb, eq, du, nx, dd, dp, dl, dm, pt, cd, ct, st, yd, yp, ya, yf, hel, mT, mK, mV, ou, eu, ev) (nI p)))
    (fin : ∀ n, wY_run_40 post (wY_run_24 post N m) s N x5 x7 tY (nI P) cH cP cD vd eK eD eP stt mC oC tk sa sb eq du nx dd dp dl dm pt cd ct st yd yp ya yf hel mT mK mV ou eu ev (n + 1) (nI (cnr tf P)) (nI P)) :
    ∀ n p, p ≤ P → P < n + p → wY_run_40 post (wY_run_24 post N m) s N x5 x7 tY (nI P) cH cP cD vd eK eD eP stt mC oC tk sa sb eq du nx dd dp dl dm pt cd ct st yd yp ya yf hel mT mK mV ou eu ev n (nI (cnr tf p)) (nI p) := by
  intro n
  induction n with
  | zero => intro p h1 h2; omega
  | succ n ih =>
    intro p h1 h2
    by_cases e : p = P
    · rw [e]; exact fin n
    · refine br_f (nI_ge (by omega) (by omega)) (wy_can (by omega) (kd p (by omega)) ?_)
      have M := ih (p + 1) (by omega) (by omega)
      by_cases z : tf p = 2
      · rw [cnr_t z] at M
        rw [decide_eq_true z]
        exact br_f nu_10 (nm_r (nI_1 _) (nm_r (nI_1 p) M))
      · rw [cnr_f z] at M
        rw [decide_eq_false z]
        exact br_t rfl (nm_r (nI_1 p) M)
theorem wy_ru_z {post : Int32 → SY → Prop} {N s x5 x7 : Int32} {m : Nat} (c0 : cnr tf P = 0) (h : post x5 (tY, nI P, cH, cP, cD, vd, eK, eD, eP, stt, mC, oC, tk, sa, sb, eq, du, nx, dd, dp, dl, dm, pt, cd, ct, st, yd, yp, ya, yf, hel, mT, mK, mV, ou, eu, ev)) : ∀ n, wY_run_40 post (wY_run_24 post N m) s N x5 x7 tY (nI P) cH cP cD vd eK eD eP stt mC oC tk sa sb eq du nx dd dp dl dm pt cd ct st yd yp ya yf hel mT mK mV ou eu ev (n + 1) (nI (cnr tf P)) (nI P) := by
  intro n
  rw [c0]
  exact br_t (Int32.le_refl _) (br_t rfl h)
theorem wy_ru_q {post : Int32 → SY → Prop} {N s a : Int32} {m t w q : Nat} {v' : SY} {PX : Nat → (Int32 → Prop) → Prop} (hP : P ≤ 6) (kd : kdA P st tf PX (fun p post => wpY_look post (tY, nI P, cH, cP, cD, vd, eK, eD, eP, stt, mC, oC, tk, sa, sb, eq, du, nx, dd, dp, dl, dm, pt, cd, ct, st, yd, yp, ya, yf, hel, mT, mK, mV, ou, eu, ev) (nI p))) (c0 : ¬ cnr tf P = 0) (w1 : w < 65536) (hw : ((s * 1103515245 + 12345).toUInt32 >>> ((16 : Int32).toUInt32 &&& Int32.toUInt32 31)).toInt32 = nI w) (q1 : q < P) (q2 : tf q = 2) (q3 : cnr tf q = w % cnr tf P) (HY : ∀ post : Int32 → SY → Prop, post a v' → wpY_step post (tY, nI P, cH, cP, cD, vd, eK, eD, eP, stt, mC, oC, tk, sa, sb, eq, du, nx, dd, dp, dl, dm, pt, cd, ct, st, yd, yp, ya, yf, hel, mT, mK, mV, ou, eu, ev) (nI q)) (h : rY24 post N m (s * 1103515245 + 12345) (nI (t + 1)) v') :
    ∀ n, wY_run_40 post (wY_run_24 post N m) s N (nI t) (-1) tY (nI P) cH cP cD vd eK eD eP stt mC oC tk sa sb eq du nx dd dp dl dm pt cd ct st yd yp ya yf hel mT mK mV ou eu ev (n + 1) (nI (cnr tf P)) (nI P) := by
  intro n
  have cl := cnr_le tf P
  have c1 : ¬ nI (cnr tf P) = 0 := nI_ne0 (by omega) (by omega)
  have W := wy_ru96 hP kd q1 q2 q3 HY h (P + 1) 0 (by omega) (by omega)
  rw [if_neg (Nat.not_lt_zero q)] at W
  refine br_t (Int32.le_refl _) (br_f c1 (nm_r rfl ⟨c1, nm_r ?_ ⟨P + 1, W⟩⟩))
  rw [hw, pk_rem (by omega) (by omega) (by omega)]
  show _ = nI (w % cnr tf P) - 0
  exact (Int32.sub_zero _).symm
end RUN
theorem ru_turns {M : Nat} (hM : M ≤ 64) : ∀ e t, t + e = M → ∀ (s : Int32) {k : Nat} {u : SX} {v : SY}, i_Rel k u v → ¬ sst u = 0 → ∃ (r : Int32) (u' : SX) (v' : SY), (∀ j, i_Rel j u' v') ∧ (∀ post : Int32 → SX → Prop, post r u' → rX27 post (nI M) (e + 1) s (nI t) (nI t) u) ∧ (∀ post : Int32 → SY → Prop, post r v' → rY24 post (nI M) (e + 1) s (nI t) v) := by
  intro e
  induction e with
  | zero =>
    intro t ht s k u v I hs
    subst ht
    refine zz_el (R := fun u v => ¬ sst u = 0 → ∃ (r : Int32) (u' : SX) (v' : SY), (∀ j, i_Rel j u' v') ∧ (∀ post : Int32 → SX → Prop, post r u' → rX27 post (nI t) 1 s (nI t) (nI t) u) ∧ (∀ post : Int32 → SY → Prop, post r v' → rY24 post (nI t) 1 s (nI t) v)) ?_ I hs
    intro T P C Q O K A B L stl cD vd eK eD eP stt tk sa sb gK gA gB cl nC dd dp dl dm pt cO cA cB cC cx cu st pd pp pa pf pv es ew qh qc qk qv ou cm eq du nx cd ct yd yp ya yf hel mT mK mV eu ev hS hT hD hV hR
    intro hs
    exact ⟨nI t, (nI T, nI P, nI C, nI Q, stl, cD, vd, eK, eD, eP, stt, nI O, tk, sa, sb, gK, gA, gB, cl, nC, dd, dp, dl, dm, pt, cO, cA, cB, cC, cx, cu, st, pd, pp, pa, pf, pv, es, ew, qh, qc, qk, qv, ou, cm), (nI T, nI P, nI C, nI Q, cD, vd, eK, eD, eP, stt, nI L.length, nI O, tk, sa, sb, eq, du, nx, dd, dp, dl, dm, pt, cd, ct, st, yd, yp, ya, yf, hel, mT, mK, mV, ou, eu, ev), fun j => zz_in hS hT hD hV hR, fun post h => br_t (Int32.le_refl _) h, fun post h => br_t (Int32.le_refl _) h⟩
  | succ e ih =>
    intro t ht s k u v I hs
    refine zz_el (R := fun u v => ¬ sst u = 0 → ∃ (r : Int32) (u' : SX) (v' : SY), (∀ j, i_Rel j u' v') ∧ (∀ post : Int32 → SX → Prop, post r u' → rX27 post (nI M) (e + 1 + 1) s (nI t) (nI t) u) ∧ (∀ post : Int32 → SY → Prop, post r v' → rY24 post (nI M) (e + 1 + 1) s (nI t) v)) ?_ I hs
    intro T P C Q O K A B L stl cD vd eK eD eP stt tk sa sb gK gA gB cl nC dd dp dl dm pt cO cA cB cC cx cu st pd pp pa pf pv es ew qh qc qk qv ou cm eq du nx cd ct yd yp ya yf hel mT mK mV eu ev hS hT hD hV hR
    intro hs
    have P6 := hS.2.1
    have tl : ¬ nI M ≤ nI t := nI_ge (by omega) (by omega)
    obtain ⟨tf, kd⟩ := wb_kinds (T := T) (P := P) (C := C) (Q := Q) (O := O) (K := K) (A := A) (B := B) (L := L) (stl := stl) (cD := cD) (vd := vd) (eK := eK) (eD := eD) (eP := eP) (stt := stt) (tk := tk) (sa := sa) (sb := sb) (gK := gK) (gA := gA) (gB := gB) (cl := cl) (nC := nC) (dd := dd) (dp := dp) (dl := dl) (dm := dm) (pt := pt) (cO := cO) (cA := cA) (cB := cB) (cC := cC) (cx := cx) (cu := cu) (st := st) (pd := pd) (pp := pp) (pa := pa) (pf := pf) (pv := pv) (es := es) (ew := ew) (qh := qh) (qc := qc) (qk := qk) (qv := qv) (ou := ou) (cm := cm) (eq := eq) (du := du) (nx := nx) (cd := cd) (ct := ct) (yd := yd) (yp := yp) (ya := ya) (yf := yf) (hel := hel) (mT := mT) (mK := mK) (mV := mV) (eu := eu) (ev := ev) hS hT hD hV hR hs
    by_cases c0 : cnr tf P = 0
    · exact ⟨nI t, (nI T, nI P, nI C, nI Q, stl, cD, vd, eK, eD, eP, stt, nI O, tk, sa, sb, gK, gA, gB, cl, nC, dd, dp, dl, dm, pt, cO, cA, cB, cC, cx, cu, st, pd, pp, pa, pf, pv, es, ew, qh, qc, qk, qv, ou, cm), (nI T, nI P, nI C, nI Q, cD, vd, eK, eD, eP, stt, nI L.length, nI O, tk, sa, sb, eq, du, nx, dd, dp, dl, dm, pt, cd, ct, st, yd, yp, ya, yf, hel, mT, mK, mV, ou, eu, ev), fun j => zz_in hS hT hD hV hR, fun post h => br_f tl ⟨P + 1, wx_ru42 P6 kd (wx_ru_z c0 h) (P + 1) 0 (by omega) (by omega)⟩, fun post h => br_f tl ⟨P + 1, wy_ru40 P6 kd (wy_ru_z c0 h) (P + 1) 0 (by omega) (by omega)⟩⟩
    · obtain ⟨w, w1, w2⟩ := ru_w (s * 1103515245 + 12345)
      obtain ⟨q, q1, q2, q3⟩ := cnr_nth P (Nat.mod_lt w (show 0 < cnr tf P by omega))
      have h1 : st q = 1 := by
        rcases kd q q1 with ⟨t0, _⟩ | ⟨t1, _, _⟩ | ⟨_, _, s1, _⟩
        · omega
        · omega
        · exact s1
      obtain ⟨a, u', v', R', S', HX, HY⟩ := wb_live (T := T) (P := P) (C := C) (Q := Q) (O := O) (K := K) (A := A) (B := B) (L := L) (stl := stl) (cD := cD) (vd := vd) (eK := eK) (eD := eD) (eP := eP) (stt := stt) (tk := tk) (sa := sa) (sb := sb) (gK := gK) (gA := gA) (gB := gB) (cl := cl) (nC := nC) (dd := dd) (dp := dp) (dl := dl) (dm := dm) (pt := pt) (cO := cO) (cA := cA) (cB := cB) (cC := cC) (cx := cx) (cu := cu) (st := st) (pd := pd) (pp := pp) (pa := pa) (pf := pf) (pv := pv) (es := es) (ew := ew) (qh := qh) (qc := qc) (qk := qk) (qv := qv) (ou := ou) (cm := cm) (eq := eq) (du := du) (nx := nx) (cd := cd) (ct := ct) (yd := yd) (yp := yp) (ya := ya) (yf := yf) (hel := hel) (mT := mT) (mK := mK) (mV := mV) (eu := eu) (ev := ev) hS hT hD hV hR hs q1 h1
      obtain ⟨r, u'', v'', R'', X'', Y''⟩ := ih (t + 1) (by omega) (s * 1103515245 + 12345) (R' 0) S'
      exact ⟨r, u'', v'', R'', fun post h => br_f tl ⟨P + 1, wx_ru42 P6 kd (wx_ru_q P6 c0 w1 w2 q1 q2 q3 HX (X'' post h)) (P + 1) 0 (by omega) (by omega)⟩, fun post h => br_f tl ⟨P + 1, wy_ru40 P6 kd (wy_ru_q P6 kd c0 w1 w2 q1 q2 q3 HY (Y'' post h)) (P + 1) 0 (by omega) (by omega)⟩⟩
theorem i_vc_run {k : Nat} {u : SX} {v : SY} (I : i_Rel k u v) (hk : k + 5 ≤ 2564) (v1 v2 : Int32) : wpX_run (fun r u' => wpY_run (fun r' v' => r' = r ∧ i_Rel (k + 5) u' v') v v1 v2) u v1 v2 := by
  refine zz_el (R := fun u v => wpX_run (fun r u' => wpY_run (fun r' v' => r' = r ∧ i_Rel (k + 5) u' v') v v1 v2) u v1 v2) ?_ I
  intro T P C Q O K A B L stl cD vd eK eD eP stt tk sa sb gK gA gB cl nC dd dp dl dm pt cO cA cB cC cx cu st pd pp pa pf pv es ew qh qc qk qv ou cm eq du nx cd ct yd yp ya yf hel mT mK mV eu ev hS hT hD hV hR
  have J : i_Rel (k + 5) (nI T, nI P, nI C, nI Q, stl, cD, vd, eK, eD, eP, stt, nI O, tk, sa, sb, gK, gA, gB, cl, nC, dd, dp, dl, dm, pt, cO, cA, cB, cC, cx, cu, st, pd, pp, pa, pf, pv, es, ew, qh, qc, qk, qv, ou, cm) (nI T, nI P, nI C, nI Q, cD, vd, eK, eD, eP, stt, nI L.length, nI O, tk, sa, sb, eq, du, nx, dd, dp, dl, dm, pt, cd, ct, st, yd, yp, ya, yf, hel, mT, mK, mV, ou, eu, ev) := zz_in hS hT hD hV hR
  by_cases hs : stt = 0
  · exact br_t hs (br_t hs ⟨rfl, J⟩)
  · obtain ⟨M, _, m64, eM⟩ := zz_clamp v2 0 64 (by omega) (by omega)
    obtain ⟨r, u', v', R', X', Y'⟩ := ru_turns m64 M 0 (by omega) v1 J hs
    have eM : (if (0 : Int32) ≤ v2 then (if v2 ≤ 64 then v2 else 64) else 0) = nI M := eM
    have WY : wpY_run (fun r' v' => r' = r ∧ i_Rel (k + 5) u' v') (nI T, nI P, nI C, nI Q, cD, vd, eK, eD, eP, stt, nI L.length, nI O, tk, sa, sb, eq, du, nx, dd, dp, dl, dm, pt, cd, ct, st, yd, yp, ya, yf, hel, mT, mK, mV, ou, eu, ev) v1 v2 := by
      refine br_f hs (wy_clamp ?_)
      rw [eM]
      exact ⟨M + 1, Y' (fun r' v' => r' = r ∧ i_Rel (k + 5) u' v') ⟨rfl, R' _⟩⟩
    refine br_f hs (wx_clamp ?_)
    rw [eM]
    exact ⟨M + 1, X' (fun r u' => wpY_run (fun r' v' => r' = r ∧ i_Rel (k + 5) u' v') (nI T, nI P, nI C, nI Q, cD, vd, eK, eD, eP, stt, nI L.length, nI O, tk, sa, sb, eq, du, nx, dd, dp, dl, dm, pt, cd, ct, st, yd, yp, ya, yf, hel, mT, mK, mV, ou, eu, ev) v1 v2) WY⟩
end
section
section FOR
variable {tY pR cH cP stl cD vd eK eD eP stt oC mC : Int32} {tk sa sb gK gA gB cl nC dd dp dl dm pt cO cA cB cC cx cu st pd pp pa pf pv es ew qh qc qk qv ou cm eq du nx cd ct yd yp ya yf hel mT mK mV eu ev : Nat → Int32}
variable {T P C Q O : Nat} {K A B : Nat → Nat} {L : List MG} {Te : Nat → Bool} {Ww : Nat → Nat}
/-! both: is it a forest? -/
def fU (e : Nat) : Nat := 6 + e / 2
/-- the edges, by X's arrays -/
def eg (C : Nat) (es ew : Nat → Int32) (Te : Nat → Bool) (Ww : Nat → Nat) : Prop :=
  (∀ e, e < 2 * C → (Te e = true ∧ ((es e = 1 ∧ ew e = nI (Ww e) ∧ Ww e < 6) ∨ (es e = 2 ∧ ∃ f, f < 16 ∧ ew e = nI f ∧ Ww e = 6 + f / 2))) ∨ (Te e = false ∧ ¬ es e = 1 ∧ ¬ es e = 2)) ∧ (∀ e, 2 * C ≤ e → Te e = false)
theorem eg_ex (R : re_R (2 * C) hel L es ew) : ∃ Te Ww, eg C es ew Te Ww := by
  have E16 := R.1.1
  refine ⟨fun e => decide (e < 2 * C ∧ (es e = 1 ∨ es e = 2)), fun e => if es e = 1 then (ew e).toNatClampNeg else 6 + (ew e).toNatClampNeg / 2, fun e he => ?_, fun e he => decide_eq_false (fun h => by omega)⟩
  dsimp only
  rcases R.2.2.2 e he with ⟨s, a, _⟩ | ⟨s, _, b⟩ | ⟨s, _⟩ | ⟨s, _⟩
  · obtain ⟨i, i1, i2⟩ := hn_ex 36 (show 0 < hn_c hel (nI e) 36 by omega)
    obtain ⟨_, _, w, _⟩ := re_of_hd R i1 i2 (by omega)
    refine Or.inl ⟨decide_eq_true ⟨he, Or.inl s⟩, Or.inl ⟨s, ?_, ?_⟩⟩
    · rw [if_pos s, w, nI_clamp (by omega)]
    · rw [if_pos s, w, nI_clamp (by omega)]; omega
  · obtain ⟨m, m1, m2, m3⟩ := ms_c_pos L (show 0 < ms_c (nI e) L by omega)
    obtain ⟨f, f1, f2, _, f4, _⟩ := re_of_ms R m1 m2
    have ef := re_inj (by omega) (by omega) (f2.symm.trans m3)
    subst ef
    have ml := re_li R m1
    have n1 : ¬ es f = 1 := by rw [s]; decide
    refine Or.inl ⟨decide_eq_true ⟨he, Or.inr s⟩, Or.inr ⟨s, m.1, ml, f4, ?_⟩⟩
    rw [if_neg n1, f4, nI_clamp (by omega)]
  · have n1 : ¬ es e = 1 := by rw [s]; decide
    have n2 : ¬ es e = 2 := by rw [s]; decide
    exact Or.inr ⟨decide_eq_false (fun h => h.2.elim n1 n2), n1, n2⟩
  · have n1 : ¬ es e = 1 := by rw [s]; decide
    have n2 : ¬ es e = 2 := by rw [s]; decide
    exact Or.inr ⟨decide_eq_false (fun h => h.2.elim n1 n2), n1, n2⟩
theorem fU_b {e : Nat} (h : e < 16) : fU e < 14 := by unfold fU; omega
theorem eg_b (hC : C ≤ 8) (G : eg C es ew Te Ww) : ∀ e, e < 16 → Te e = true → Ww e < 14 := by
  intro e he t
  by_cases h : e < 2 * C
  · rcases G.1 e h with ⟨_, ⟨_, _, w⟩ | ⟨_, f, f1, _, f3⟩⟩ | ⟨t', _⟩
    · omega
    · omega
    · rw [t] at t'; cases t'
  · rw [G.2 e (by omega)] at t; cases t
theorem fo_sh : ∀ e, e < 16 → 6 + (nI e >>> ((1 : Int32) &&& 31)) = nI (fU e) := by decide +kernel
theorem fo_dv : ∀ e, e < 16 → 6 + nI e / 2 = nI (fU e) := by decide +kernel
theorem fo_d_le {U W : Nat → Nat} {v : Nat} : ∀ n, fo_d U W Te v n ≤ 2 * n := by
  intro n
  induction n with
  | zero => exact Nat.le_refl _
  | succ n ih =>
    cases t : Te n with
    | false => rw [fo_d_skip t]; omega
    | true => rw [fo_d_add t]; split <;> split <;> omega
/-! X -/
theorem wx_j26 {post : Int32 → SX → Prop} {c : Nat → Nat} {a b : Nat} (ha : a < 14) (hb : b < 14) (hc : ∀ v, v < 14 → c v < 14) (k : ∀ cm : Nat → Int32, (∀ v, v < 14 → cm v = nI (fo_c c a b v)) → post 1 (tY, pR, cH, cP, stl, cD, vd, eK, eD, eP, stt, oC, tk, sa, sb, gK, gA, gB, cl, nC, dd, dp, dl, dm, pt, cO, cA, cB, cC, cx, cu, st, pd, pp, pa, pf, pv, es, ew, qh, qc, qk, qv, ou, cm)) :
    ∀ n p (cm : Nat → Int32), p ≤ 14 → 14 < n + p → (∀ v, v < 14 → cm v = nI (if v < p then fo_c c a b v else c v)) → wX_join_26 post (nI a) (nI b) tY pR cH cP stl cD vd eK eD eP stt oC n (nI p) tk sa sb gK gA gB cl nC dd dp dl dm pt cO cA cB cC cx cu st pd pp pa pf pv es ew qh qc qk qv ou cm := by
  intro n
  induction n with
  | zero => intro p cm h1 h2; omega
  | succ n ih =>
    intro p cm h1 h2 I
    by_cases e : p = 14
    · subst e
      exact br_t (Int32.le_refl _) (k cm (fun v hv => by rw [I v hv, if_pos hv]))
    · have i1 : vp_in (nI p) 14 := vp_in_nI (by omega) (by decide)
      have ee : (nI p).toNatClampNeg = p := nI_clamp (by omega)
      have Ip := I p (by omega)
      rw [if_neg (Nat.lt_irrefl p)] at Ip
      have cp := hc p (by omega)
      refine br_f (nI_ge (b := 14) (by omega) (by omega)) ⟨i1, ?_⟩
      rw [ee]
      by_cases z : c p = b
      · refine br_t (by rw [Ip, z]) ⟨i1, nm_r rfl (nm_r (nI_1 p) (ih (p + 1) _ (by omega) (by omega) (fun v hv => ?_)))⟩
        by_cases w : v = p
        · rw [w, pk_us, if_pos (by omega)]; unfold fo_c; rw [if_pos z]
        · rw [pk_un w, I v hv]
          by_cases l : v < p
          · rw [if_pos l, if_pos (by omega)]
          · rw [if_neg l, if_neg (by omega)]
      · refine br_f (fun q => z ?_) (nm_r (nI_1 p) (ih (p + 1) cm (by omega) (by omega) (fun v hv => ?_)))
        · rw [Ip] at q; exact (nI_eq (by omega) (by omega)).mp q
        · rw [I v hv]
          by_cases w : v = p
          · rw [w, if_neg (Nat.lt_irrefl p), if_pos (by omega)]; unfold fo_c; rw [if_neg z]
          · by_cases l : v < p
            · rw [if_pos l, if_pos (by omega)]
            · rw [if_neg l, if_neg (by omega)]
theorem wx_join {post : Int32 → SX → Prop} {c : Nat → Nat} {a b : Nat} (ha : a < 14) (hb : b < 14) (hc : ∀ v, v < 14 → c v < 14) (I : ∀ v, v < 14 → cm v = nI (c v)) (k0 : c a = c b → post 0 (tY, pR, cH, cP, stl, cD, vd, eK, eD, eP, stt, oC, tk, sa, sb, gK, gA, gB, cl, nC, dd, dp, dl, dm, pt, cO, cA, cB, cC, cx, cu, st, pd, pp, pa, pf, pv, es, ew, qh, qc, qk, qv, ou, cm)) (k1 : ¬ c a = c b → ∀ cm : Nat → Int32, (∀ v, v < 14 → cm v = nI (fo_c c (c a) (c b) v)) → post 1 (tY, pR, cH, cP, stl, cD, vd, eK, eD, eP, stt, oC, tk, sa, sb, gK, gA, gB, cl, nC, dd, dp, dl, dm, pt, cO, cA, cB, cC, cx, cu, st, pd, pp, pa, pf, pv, es, ew, qh, qc, qk, qv, ou, cm)) : wpX_join post (tY, pR, cH, cP, stl, cD, vd, eK, eD, eP, stt, oC, tk, sa, sb, gK, gA, gB, cl, nC, dd, dp, dl, dm, pt, cO, cA, cB, cC, cx, cu, st, pd, pp, pa, pf, pv, es, ew, qh, qc, qk, qv, ou, cm) (nI a) (nI b) := by
  have ca := hc a ha
  have cb := hc b hb
  unfold wpX_join
  dsimp only
  rw [nI_clamp (show a < 2 ^ 31 by omega), nI_clamp (show b < 2 ^ 31 by omega)]
  refine ⟨vp_in_nI ha (by decide), nm_r (I a ha) ⟨vp_in_nI hb (by decide), nm_r (I b hb) ?_⟩⟩
  exact pk_eq (c a) (c b) k0 (fun z => ⟨15, wx_j26 ca cb hc (k1 z) 15 0 cm (by omega) (by omega) (fun v hv => by rw [if_neg (Nat.not_lt_zero v)]; exact I v hv)⟩) rfl rfl (by omega) (by omega)
theorem wx_f32 {post : Int32 → SX → Prop} (hC : C ≤ 8) (G : eg C es ew Te Ww) (k0 : ¬ fo_A2 fU Ww Te → ∀ cm : Nat → Int32, post 0 (tY, pR, nI C, cP, stl, cD, vd, eK, eD, eP, stt, oC, tk, sa, sb, gK, gA, gB, cl, nC, dd, dp, dl, dm, pt, cO, cA, cB, cC, cx, cu, st, pd, pp, pa, pf, pv, es, ew, qh, qc, qk, qv, ou, cm)) (k1 : fo_A2 fU Ww Te → ∀ cm : Nat → Int32, post 1 (tY, pR, nI C, cP, stl, cD, vd, eK, eD, eP, stt, oC, tk, sa, sb, gK, gA, gB, cl, nC, dd, dp, dl, dm, pt, cO, cA, cB, cC, cx, cu, st, pd, pp, pa, pf, pv, es, ew, qh, qc, qk, qv, ou, cm)) :
    ∀ n e (c : Nat → Nat) (cm : Nat → Int32), e ≤ 2 * C → 2 * C < n + e → (∀ v, v < 14 → c v < 14) → (∀ v, v < 14 → cm v = nI (c v)) → fo_I fU Ww Te e c → (∀ f, f < e → Te f = true → ¬ fo_K fU Ww (fo_b Te f) (fU f) (Ww f)) → wX_forest_32 post n (nI e) tY pR (nI C) cP stl cD vd eK eD eP stt oC tk sa sb gK gA gB cl nC dd dp dl dm pt cO cA cB cC cx cu st pd pp pa pf pv es ew qh qc qk qv ou cm := by
  intro n
  induction n with
  | zero => intro e c cm h1 h2; omega
  | succ n ih =>
    intro e c cm h1 h2 hc I J N
    by_cases e0 : e = 2 * C
    · refine br_t (by rw [nu_2m]; exact nI_le (by omega) (by omega)) (k1 (fun f hf t => ?_) cm)
      by_cases l : f < e
      · exact N f l t
      · rw [G.2 f (by omega)] at t; cases t
    · have i1 : vp_in (nI e) 16 := vp_in_nI (by omega) (by decide)
      have ee : (nI e).toNatClampNeg = e := nI_clamp (by omega)
      have e16 : e < 16 := by omega
      have hU := fU_b e16
      have stp : ∀ (cm' : Nat → Int32), Te e = true → Ww e < 14 → ¬ c (fU e) = c (Ww e) → (∀ v, v < 14 → cm' v = nI (fo_c c (c (fU e)) (c (Ww e)) v)) → wX_forest_32 post n (nI (e + 1)) tY pR (nI C) cP stl cD vd eK eD eP stt oC tk sa sb gK gA gB cl nC dd dp dl dm pt cO cA cB cC cx cu st pd pp pa pf pv es ew qh qc qk qv ou cm' := fun cm' t hW z I' =>
        ih (e + 1) _ cm' (by omega) (by omega) (fun v hv => by
          unfold fo_c
          split
          · exact hc _ hU
          · exact hc v hv) I' (fo_I_join J t e16 hU hW) (fun f hf tf => by
          by_cases w : f = e
          · rw [w]; exact fo_I_no J z
          · exact N f (by omega) tf)
      refine br_f (by rw [nu_2m]; exact nI_ge (by omega) (by omega)) (nm_r (fo_sh e e16) ⟨i1, ?_⟩)
      rw [ee]
      rcases G.1 e (by omega) with ⟨t, ⟨s1, w1, w2⟩ | ⟨s2, f, f1, f2, f3⟩⟩ | ⟨t, n1, n2⟩
      · refine br_t s1 ⟨i1, ?_⟩
        rw [w1]
        exact wx_join hU (by omega) hc I (fun z => br_t rfl (k0 (fo_I_yes J e16 t hU (by omega) z) cm)) (fun z cm' I' => br_f nu_10 (nm_r (nI_1 e) (stp cm' t (by omega) z I')))
      · refine br_f (by rw [s2]; decide) ⟨i1, br_t s2 ⟨i1, ?_⟩⟩
        rw [f2, fo_sh f f1, show fU f = Ww e from f3.symm]
        exact wx_join hU (by omega) hc I (fun z => br_t rfl (k0 (fo_I_yes J e16 t hU (by omega) z) cm)) (fun z cm' I' => br_f nu_10 (nm_r (nI_1 e) (stp cm' t (by omega) z I')))
      · refine br_f n1 ⟨i1, br_f n2 (nm_r (nI_1 e) (ih (e + 1) c cm (by omega) (by omega) hc I (fo_I_skip J t) (fun f hf tf => ?_)))⟩
        by_cases w : f = e
        · rw [w, t] at tf; cases tf
        · exact N f (by omega) tf
theorem wx_f11 {post : Int32 → SX → Prop} (hC : C ≤ 8) (G : eg C es ew Te Ww) (k0 : ¬ fo_A2 fU Ww Te → ∀ cm : Nat → Int32, post 0 (tY, pR, nI C, cP, stl, cD, vd, eK, eD, eP, stt, oC, tk, sa, sb, gK, gA, gB, cl, nC, dd, dp, dl, dm, pt, cO, cA, cB, cC, cx, cu, st, pd, pp, pa, pf, pv, es, ew, qh, qc, qk, qv, ou, cm)) (k1 : fo_A2 fU Ww Te → ∀ cm : Nat → Int32, post 1 (tY, pR, nI C, cP, stl, cD, vd, eK, eD, eP, stt, oC, tk, sa, sb, gK, gA, gB, cl, nC, dd, dp, dl, dm, pt, cO, cA, cB, cC, cx, cu, st, pd, pp, pa, pf, pv, es, ew, qh, qc, qk, qv, ou, cm)) :
    ∀ n p (cm : Nat → Int32), p ≤ 14 → 14 < n + p → (∀ v, v < p → cm v = nI v) → wX_forest_11 post tY pR (nI C) cP stl cD vd eK eD eP stt oC n (nI p) tk sa sb gK gA gB cl nC dd dp dl dm pt cO cA cB cC cx cu st pd pp pa pf pv es ew qh qc qk qv ou cm := by
  intro n
  induction n with
  | zero => intro p cm h1 h2; omega
  | succ n ih =>
    intro p cm h1 h2 I
    by_cases e : p = 14
    · subst e
      exact br_t (Int32.le_refl _) ⟨2 * C + 1, wx_f32 hC G k0 k1 (2 * C + 1) 0 (fun v => v) cm (by omega) (by omega) (fun v hv => hv) I fo_I_0 (fun f hf => absurd hf (Nat.not_lt_zero f))⟩
    · have i1 : vp_in (nI p) 14 := vp_in_nI (by omega) (by decide)
      have ee : (nI p).toNatClampNeg = p := nI_clamp (by omega)
      refine br_f (nI_ge (b := 14) (by omega) (by omega)) ⟨i1, ?_⟩
      rw [ee]
      refine nm_r rfl (nm_r (nI_1 p) (ih (p + 1) _ (by omega) (by omega) (fun v hv => ?_)))
      by_cases w : v = p
      · rw [w, pk_us]
      · rw [pk_un w]; exact I v (by omega)
/-! Y -/
def rp (Re : Nat → Bool) (Ww : Nat → Nat) (eu ev : Nat → Int32) (n : Nat) : Prop := ∀ f, f < n → (Re f = true → eu f = nI (fU f) ∧ ev f = nI (Ww f)) ∧ (Re f = false → eu f = -1)
theorem wy_d35 {post : Int32 → Prop} {J : Int32 → Int32 → Prop} {v e z d w : Nat} (he : e < 16) (hw : ev e = nI w) (w14 : w < 14) (v14 : v < 14) (k : J (nI (d + (z + (if w = v then 1 else 0)))) (nI (e + 1))) : wY_degree_35 post J (nI v) (nI e) (nI z) (nI d) tY pR cH cP cD vd eK eD eP stt mC oC tk sa sb eq du nx dd dp dl dm pt cd ct st yd yp ya yf hel mT mK mV ou eu ev := by
  have i1 : vp_in (nI e) 16 := vp_in_nI (by omega) (by decide)
  have ee : (nI e).toNatClampNeg = e := nI_clamp (by omega)
  refine ⟨i1, ?_⟩
  rw [ee, hw]
  refine pk_eq w v (fun q => nm_r ?_ (nm_r (nI_1 e) k)) (fun q => nm_r ?_ (nm_r (nI_1 e) k)) rfl rfl (by omega) (by omega)
  · rw [if_pos q, nI_1, nI_add]
  · rw [if_neg q, Int32.add_zero, nI_add, Nat.add_zero]
theorem wy_deg {post : Int32 → Prop} {Re : Nat → Bool} {v : Nat} (hv : v < 14) (hW : ∀ e, e < 16 → Re e = true → Ww e < 14) (I : rp Re Ww eu ev 16) (k : post (nI (fo_d fU Ww Re v 16))) : wpY_degree post (tY, pR, cH, cP, cD, vd, eK, eD, eP, stt, mC, oC, tk, sa, sb, eq, du, nx, dd, dp, dl, dm, pt, cd, ct, st, yd, yp, ya, yf, hel, mT, mK, mV, ou, eu, ev) (nI v) := by
  have W : ∀ n e, e ≤ 16 → 16 < n + e → wY_degree_4 post (nI v) tY pR cH cP cD vd eK eD eP stt mC oC tk sa sb eq du nx dd dp dl dm pt cd ct st yd yp ya yf hel mT mK mV ou eu ev n (nI (fo_d fU Ww Re v e)) (nI e) := by
    intro n
    induction n with
    | zero => intro e h1 h2; omega
    | succ n ih =>
      intro e h1 h2
      by_cases q : e = 16
      · subst q; exact br_t (Int32.le_refl _) k
      · have e16 : e < 16 := by omega
        have i1 : vp_in (nI e) 16 := vp_in_nI (by omega) (by decide)
        have ee : (nI e).toNatClampNeg = e := nI_clamp (by omega)
        have M := ih (e + 1) (by omega) (by omega)
        refine br_f (nI_ge (b := 16) (by omega) (by omega)) ⟨i1, ?_⟩
        rw [ee]
        cases hr : Re e with
        | false =>
          rw [fo_d_skip hr] at M
          exact br_t (by rw [(I e e16).2 hr]; decide) (nm_r (nI_1 e) M)
        | true =>
          obtain ⟨a, b⟩ := (I e e16).1 hr
          have hU := fU_b e16
          have hw := hW e e16 hr
          rw [fo_d_add hr] at M
          refine br_f (by rw [a]; exact nI_pos (by omega)) ⟨i1, ?_⟩
          rw [a]
          refine pk_eq (fU e) v (fun z => ?_) (fun z => ?_) rfl rfl (by omega) (by omega)
          · rw [if_pos z] at M
            exact wy_d35 (z := 1) e16 b hw hv M
          · rw [if_neg z] at M
            exact wy_d35 (z := 0) e16 b hw hv M
  exact ⟨17, W 17 0 (by omega) (by omega)⟩
theorem wy_f153 {post : Int32 → SY → Prop} {Re : Nat → Bool} (I : rp Re Ww eu ev 16) (k1 : (∀ e, e < 16 → Re e = false) → post 1 (tY, pR, cH, cP, cD, vd, eK, eD, eP, stt, mC, oC, tk, sa, sb, eq, du, nx, dd, dp, dl, dm, pt, cd, ct, st, yd, yp, ya, yf, hel, mT, mK, mV, ou, eu, ev)) (k0 : (¬ ∀ e, e < 16 → Re e = false) → post 0 (tY, pR, cH, cP, cD, vd, eK, eD, eP, stt, mC, oC, tk, sa, sb, eq, du, nx, dd, dp, dl, dm, pt, cd, ct, st, yd, yp, ya, yf, hel, mT, mK, mV, ou, eu, ev)) :
    ∀ n e, e ≤ 16 → 16 < n + e → (∀ f, f < e → Re f = false) → wY_forest_153 post tY pR cH cP cD vd eK eD eP stt mC oC tk sa sb eq du nx dd dp dl dm pt cd ct st yd yp ya yf hel mT mK mV ou eu ev n (nI e) := by
  intro n
  induction n with
  | zero => intro e h1 h2; omega
  | succ n ih =>
    intro e h1 h2 N
    by_cases q : e = 16
    · subst q; exact br_t (Int32.le_refl _) (k1 N)
    · have e16 : e < 16 := by omega
      have i1 : vp_in (nI e) 16 := vp_in_nI (by omega) (by decide)
      have ee : (nI e).toNatClampNeg = e := nI_clamp (by omega)
      refine br_f (nI_ge (b := 16) (by omega) (by omega)) ⟨i1, ?_⟩
      rw [ee]
      cases hr : Re e with
      | false =>
        refine br_t (by rw [(I e e16).2 hr]; decide) (nm_r (nI_1 e) (ih (e + 1) (by omega) (by omega) (fun f hf => ?_)))
        by_cases w : f = e
        · rw [w]; exact hr
        · exact N f (by omega)
      | true =>
        obtain ⟨a, b⟩ := (I e e16).1 hr
        have hU := fU_b e16
        refine br_f (by rw [a]; exact nI_pos (by omega)) (k0 (fun h => ?_))
        rw [h e e16] at hr; cases hr
def lf (Ww : Nat → Nat) (Re : Nat → Bool) (f : Nat) : Prop := fo_d fU Ww Re (fU f) 16 = 1 ∨ fo_d fU Ww Re (Ww f) 16 = 1
def stk (Ww : Nat → Nat) (Re : Nat → Bool) : Prop := ∀ f, f < 16 → Re f = true → ¬ lf Ww Re f
theorem wy_f89 {post : Int32 → SY → Prop} {m r c0 : Nat} {S0 : Prop} (hW : ∀ e, e < 16 → Te e = true → Ww e < 14)
    (k : ∀ (Re : Nat → Bool) (eu : Nat → Int32), rp Re Ww eu ev 16 → (∀ e, e < 16 → Re e = true → Te e = true) → (fo_A fU Ww Re → fo_A fU Ww Te) → (ty_cnt Re 16 < c0 ∨ stk Ww Re) → (S0 → stk Ww Re) → wY_forest_81 post tY pR cH cP cD vd eK eD eP stt mC oC m (nI (r + 1)) tk sa sb eq du nx dd dp dl dm pt cd ct st yd yp ya yf hel mT mK mV ou eu ev) :
    ∀ n e (Re : Nat → Bool) (eu : Nat → Int32), e ≤ 16 → 16 < n + e → rp Re Ww eu ev 16 → (∀ e, e < 16 → Re e = true → Te e = true) → (fo_A fU Ww Re → fo_A fU Ww Te) → ty_cnt Re 16 ≤ c0 → (ty_cnt Re 16 < c0 ∨ ∀ f, f < e → Re f = true → ¬ lf Ww Re f) → (S0 → stk Ww Re) → wY_forest_89 post (wY_forest_81 post tY pR cH cP cD vd eK eD eP stt mC oC m) (nI r) tY pR cH cP cD vd eK eD eP stt mC oC n (nI e) tk sa sb eq du nx dd dp dl dm pt cd ct st yd yp ya yf hel mT mK mV ou eu ev := by
  intro n
  induction n with
  | zero => intro e Re eu h1 h2; omega
  | succ n ih =>
    intro e Re eu h1 h2 I sub back cn pr0 sk
    by_cases q : e = 16
    · subst q
      exact br_t (Int32.le_refl _) (nm_r (nI_1 r) (k Re eu I sub back pr0 sk))
    · have e16 : e < 16 := by omega
      have i1 : vp_in (nI e) 16 := vp_in_nI (by omega) (by decide)
      have ee : (nI e).toNatClampNeg = e := nI_clamp (by omega)
      refine br_f (nI_ge (b := 16) (by omega) (by omega)) ⟨i1, ?_⟩
      rw [ee]
      have keep : (Re e = true → ¬ lf Ww Re e) → wY_forest_89 post (wY_forest_81 post tY pR cH cP cD vd eK eD eP stt mC oC m) (nI r) tY pR cH cP cD vd eK eD eP stt mC oC n (nI (e + 1)) tk sa sb eq du nx dd dp dl dm pt cd ct st yd yp ya yf hel mT mK mV ou eu ev := fun nl =>
        ih (e + 1) Re eu (by omega) (by omega) I sub back cn (pr0.elim Or.inl (fun h => Or.inr (fun f hf tf => by
          by_cases w : f = e
          · rw [w]; rw [w] at tf; exact nl tf
          · exact h f (by omega) tf))) sk
      cases hr : Re e with
      | false =>
        exact br_t (by rw [(I e e16).2 hr]; decide) (nm_r (nI_1 e) (keep (fun h => by rw [hr] at h; cases h)))
      | true =>
        obtain ⟨a, b⟩ := (I e e16).1 hr
        have hU := fU_b e16
        have hWR : ∀ e, e < 16 → Re e = true → Ww e < 14 := fun e he t => hW e he (sub e he t)
        have hw := hWR e e16 hr
        have d1 : fo_d fU Ww Re (fU e) 16 ≤ 32 := fo_d_le 16
        have d2 : fo_d fU Ww Re (Ww e) 16 ≤ 32 := fo_d_le 16
        have rem : lf Ww Re e → wY_forest_89 post (wY_forest_81 post tY pR cH cP cD vd eK eD eP stt mC oC m) (nI r) tY pR cH cP cD vd eK eD eP stt mC oC n (nI (e + 1)) tk sa sb eq du nx dd dp dl dm pt cd ct st yd yp ya yf hel mT mK mV ou (upd eu e (-1)) ev := fun l => by
          have wf : fo_w Re e e = false := by
            cases t : fo_w Re e e with
            | false => rfl
            | true => exact absurd rfl (fo_w_t.mp t).2
          have cl2 := ty_cnt_lt (p := fo_w Re e) (q := Re) 16 (fun i _ h => (fo_w_t.mp h).1) e e16 wf hr
          refine ih (e + 1) (fo_w Re e) (upd eu e (-1)) (by omega) (by omega) (fun f hf => ?_) (fun f hf h => sub f hf (fo_w_t.mp h).1) (fun h => back (fo_strip e16 hr l h)) (by omega) (Or.inl (by omega)) (fun s => absurd l (sk s e e16 hr))
          by_cases w : f = e
          · rw [w, wf, pk_us]
            exact ⟨fun h => absurd h (by decide), fun _ => rfl⟩
          · have ew' : fo_w Re e f = Re f := by unfold fo_w; rw [decide_eq_true w, Bool.and_true]
            rw [pk_un w, ew']
            exact I f hf
        refine br_f (by rw [a]; exact nI_pos (by omega)) ⟨i1, ?_⟩
        rw [a, b]
        refine wy_deg hU hWR I ?_
        refine pk_eq (fo_d fU Ww Re (fU e) 16) 1 (fun z => ⟨i1, nm_r rfl (nm_r (nI_1 e) (rem (Or.inl z)))⟩) (fun z => ⟨i1, ?_⟩) rfl rfl (by omega) (by omega)
        refine wy_deg hw hWR I ?_
        exact pk_eq (fo_d fU Ww Re (Ww e) 16) 1 (fun z2 => ⟨i1, nm_r rfl (nm_r (nI_1 e) (rem (Or.inr z2)))⟩) (fun z2 => nm_r (nI_1 e) (keep (fun _ h => h.elim z z2))) rfl rfl (by omega) (by omega)
theorem wy_f81 {post : Int32 → SY → Prop} (hW : ∀ e, e < 16 → Te e = true → Ww e < 14) (k0 : ¬ fo_A2 fU Ww Te → ∀ eu ev : Nat → Int32, post 0 (tY, pR, cH, cP, cD, vd, eK, eD, eP, stt, mC, oC, tk, sa, sb, eq, du, nx, dd, dp, dl, dm, pt, cd, ct, st, yd, yp, ya, yf, hel, mT, mK, mV, ou, eu, ev)) (k1 : fo_A2 fU Ww Te → ∀ eu ev : Nat → Int32, post 1 (tY, pR, cH, cP, cD, vd, eK, eD, eP, stt, mC, oC, tk, sa, sb, eq, du, nx, dd, dp, dl, dm, pt, cd, ct, st, yd, yp, ya, yf, hel, mT, mK, mV, ou, eu, ev)) :
    ∀ n r (Re : Nat → Bool) (eu : Nat → Int32), r ≤ 16 → 16 < n + r → rp Re Ww eu ev 16 → (∀ e, e < 16 → Re e = true → Te e = true) → (fo_A fU Ww Re → fo_A fU Ww Te) → (ty_cnt Re 16 ≤ 16 - r ∨ stk Ww Re) → wY_forest_81 post tY pR cH cP cD vd eK eD eP stt mC oC n (nI r) tk sa sb eq du nx dd dp dl dm pt cd ct st yd yp ya yf hel mT mK mV ou eu ev := by
  intro n
  induction n with
  | zero => intro r Re eu h1 h2; omega
  | succ n ih =>
    intro r Re eu h1 h2 I sub back pr0
    by_cases q : r = 16
    · subst q
      have sk : stk Ww Re := by
        rcases pr0 with c | s
        · intro f hf t
          have := ty_cnt_pos (p := Re) hf t
          omega
        · exact s
      have F := fo_fin (U := fU) (W := Ww) (fun e he _ => fU_b he) hW sub back sk
      exact br_t (Int32.le_refl _) ⟨17, wy_f153 I (fun h => k1 (F.mp h) eu ev) (fun h => k0 (fun a => h (F.mpr a)) eu ev) 17 0 (by omega) (by omega) (fun f hf => absurd hf (Nat.not_lt_zero f))⟩
    · refine br_f (nI_ge (b := 16) (by omega) (by omega)) ⟨17, wy_f89 (c0 := ty_cnt Re 16) (S0 := stk Ww Re) hW (fun Re' eu' I' sub' back' p' s' => ih (r + 1) Re' eu' (by omega) (by omega) I' sub' back' ?_) 17 0 Re eu (by omega) (by omega) I sub back (Nat.le_refl _) (Or.inr (fun f hf => absurd hf (Nat.not_lt_zero f))) (fun s => s)⟩
      rcases pr0 with c | s
      · rcases p' with c' | s2
        · exact Or.inl (by omega)
        · exact Or.inr s2
      · exact Or.inr (s' s)
theorem rp_s {e : Nat} {x y : Int32} (I : rp Te Ww eu ev e) (h : (Te e = true → x = nI (fU e) ∧ y = nI (Ww e)) ∧ (Te e = false → x = -1)) : rp Te Ww (upd eu e x) (upd ev e y) (e + 1) := by
  intro f hf
  by_cases w : f = e
  · rw [w, pk_us, pk_us]; exact h
  · rw [pk_un w, pk_un w]; exact I f (by omega)
theorem wy_f11 {post : Int32 → SY → Prop} (R : re_R (2 * C) hel L es ew) (hA : ms_A L mT mK mV) (h64 : L.length ≤ 64) (G : eg C es ew Te Ww) (k : ∀ eu ev : Nat → Int32, rp Te Ww eu ev 16 → ∃ n, wY_forest_81 post tY pR cH cP cD vd eK eD eP stt (nI L.length) oC n 0 tk sa sb eq du nx dd dp dl dm pt cd ct st yd yp ya yf hel mT mK mV ou eu ev) :
    ∀ n e (eu ev : Nat → Int32), e ≤ 16 → 16 < n + e → rp Te Ww eu ev e → wY_forest_11 post tY pR cH cP cD vd eK eD eP stt (nI L.length) oC n (nI e) tk sa sb eq du nx dd dp dl dm pt cd ct st yd yp ya yf hel mT mK mV ou eu ev := by
  have E16 := R.1.1
  intro n
  induction n with
  | zero => intro e eu ev h1 h2; omega
  | succ n ih =>
    intro e eu ev h1 h2 I
    by_cases q : e = 16
    · subst q
      exact br_t (Int32.le_refl _) (k eu ev I)
    · have e16 : e < 16 := by omega
      have i1 : vp_in (nI e) 16 := vp_in_nI (by omega) (by decide)
      have ee : (nI e).toNatClampNeg = e := nI_clamp (by omega)
      have nx1 : ∀ x y : Int32, ((Te e = true → x = nI (fU e) ∧ y = nI (Ww e)) ∧ (Te e = false → x = -1)) → wY_forest_11 post tY pR cH cP cD vd eK eD eP stt (nI L.length) oC n (nI (e + 1)) tk sa sb eq du nx dd dp dl dm pt cd ct st yd yp ya yf hel mT mK mV ou (upd eu e x) (upd ev e y) := fun x y h => ih (e + 1) _ _ (by omega) (by omega) (rp_s I h)
      have ex : upd eu (nI e).toNatClampNeg (6 + nI e / 2) = upd eu e (nI (fU e)) := by rw [ee, fo_dv e e16]
      have dl0 : ¬ (2 : Int32) = 0 := by decide
      refine br_f (nI_ge (b := 16) (by omega) (by omega)) ?_
      refine wy_holder (fun i hi hh => ?_) (fun nh => ?_)
      · obtain ⟨e2, s1, s2, _⟩ := re_of_hd R hi hh e16
        have Wd : Te e = true ∧ Ww e = i / 6 := by
          rcases G.1 e e2 with ⟨t, ⟨_, w1, w2⟩ | ⟨n2, _⟩⟩ | ⟨_, n1, _⟩
          · exact ⟨t, (nI_eq (by omega) (by omega)).mp (w1.symm.trans s2)⟩
          · rw [s1] at n2; exact absurd n2 (by decide)
          · exact absurd s1 n1
        have F : ∀ r3 : Int32, wY_forest_46 post (wY_forest_11 post tY pR cH cP cD vd eK eD eP stt (nI L.length) oC n) (nI e) (nI (i / 6)) r3 (nI e) tY pR cH cP cD vd eK eD eP stt (nI L.length) oC tk sa sb eq du nx dd dp dl dm pt cd ct st yd yp ya yf hel mT mK mV ou eu ev := fun r3 =>
          ⟨dl0, i1, nm_r ex (br_f (nI_pos (by omega)) ⟨i1, nm_r (by rw [ee]) (nm_r (nI_1 e) (nx1 (nI (fU e)) (nI (i / 6)) ⟨fun _ => ⟨rfl, by rw [Wd.2]⟩, fun t => by rw [Wd.1] at t; cases t⟩))⟩)⟩
        exact wy_carrier hA h64 (fun m _ _ _ => br_t (nI_pos' (by omega)) (F _)) (fun _ => br_t (nI_pos' (by omega)) (F _))
      · refine wy_carrier hA h64 (fun m hm h2 hv => ?_) (fun nc => ?_)
        · obtain ⟨f, f1, f2, f3, f4, _⟩ := re_of_ms R hm h2
          have ef := re_inj (by omega) (by omega) (f2.symm.trans hv)
          subst ef
          have ml := re_li R hm
          have Wd : Te f = true ∧ Ww f = fU m.1 := by
            rcases G.1 f f1 with ⟨t, ⟨n1, _⟩ | ⟨_, g, g1, g2, g3⟩⟩ | ⟨_, _, n2⟩
            · rw [f3] at n1; exact absurd n1 (by decide)
            · have := re_inj g1 ml (g2.symm.trans f4)
              subst this
              exact ⟨t, g3⟩
            · exact absurd f3 n2
          have ey : upd ev (nI f).toNatClampNeg (6 + nI m.1 / 2) = upd ev f (nI (fU m.1)) := by rw [ee, fo_dv m.1 ml]
          exact br_f nu_m1le (br_t (nI_pos' (by omega)) ⟨dl0, i1, nm_r ex (br_t nu_m1lt ⟨dl0, i1, nm_r ey (nm_r (nI_1 f) (nx1 (nI (fU f)) (nI (fU m.1)) ⟨fun _ => ⟨rfl, by rw [Wd.2]⟩, fun t => by rw [Wd.1] at t; cases t⟩))⟩)⟩)
        · have tf : Te e = false := by
            by_cases l : e < 2 * C
            · rcases G.1 e l with ⟨t, s⟩ | ⟨t, _⟩
              · rcases re_alive R l with ⟨_, a⟩ | ⟨a, _⟩
                · rcases a with a | a
                  · obtain ⟨i, i1, i2⟩ := hn_ex 36 a
                    exact absurd i2 (nh i i1)
                  · obtain ⟨m, m1, m2, m3⟩ := ms_c_pos L a
                    exact absurd m3 (nc m m1 m2)
                · rcases s with ⟨s, _⟩ | ⟨s, _⟩ <;> rcases a with a | a <;> (rw [s] at a; exact absurd a (by decide))
              · exact t
            · exact G.2 e (by omega)
          exact br_f nu_m1le (br_f nu_m1le ⟨i1, nm_r (by rw [ee]) (br_t nu_m1lt ⟨dl0, i1, nm_r (by rw [ee]) (nm_r (nI_1 e) (nx1 (-1) (6 + -1 / 2) ⟨fun t => (by rw [tf] at t; cases t), fun _ => rfl⟩))⟩)⟩)
end FOR
theorem i_vc_forest {k : Nat} {u : SX} {v : SY} (I : i_Rel k u v) (hk : k + 5 ≤ 2564) : wpX_forest (fun r u' => wpY_forest (fun r' v' => r' = r ∧ i_Rel (k + 5) u' v') v) u := by
  refine zz_el (R := fun u v => wpX_forest (fun r u' => wpY_forest (fun r' v' => r' = r ∧ i_Rel (k + 5) u' v') v) u) ?_ I
  intro T P C Q O K A B L stl cD vd eK eD eP stt tk sa sb gK gA gB cl nC dd dp dl dm pt cO cA cB cC cx cu st pd pp pa pf pv es ew qh qc qk qv ou cm eq du nx cd ct yd yp ya yf hel mT mK mV eu ev hS hT hD hV hR
  have J : ∀ cm eu ev : Nat → Int32, i_Rel (k + 5) (nI T, nI P, nI C, nI Q, stl, cD, vd, eK, eD, eP, stt, nI O, tk, sa, sb, gK, gA, gB, cl, nC, dd, dp, dl, dm, pt, cO, cA, cB, cC, cx, cu, st, pd, pp, pa, pf, pv, es, ew, qh, qc, qk, qv, ou, cm) (nI T, nI P, nI C, nI Q, cD, vd, eK, eD, eP, stt, nI L.length, nI O, tk, sa, sb, eq, du, nx, dd, dp, dl, dm, pt, cd, ct, st, yd, yp, ya, yf, hel, mT, mK, mV, ou, eu, ev) := fun cm eu ev => zz_in hS hT hD hV hR
  by_cases hs : stt = 0
  · exact br_t hs (br_t hs ⟨rfl, J cm eu ev⟩)
  · have C8 := hS.2.2.2.1
    have h := hR.1
    obtain ⟨q1, q2, q3⟩ := zc_q h hS.2.2.2.2.2.1
    obtain ⟨Te, Ww, G⟩ := eg_ex h.1
    have hW := eg_b C8 G
    have Y : ∀ (r : Int32) (cm : Nat → Int32), (¬ fo_A2 fU Ww Te → 0 = r) → (fo_A2 fU Ww Te → 1 = r) → wpY_forest (fun r' v' => r' = r ∧ i_Rel (k + 5) (nI T, nI P, nI C, nI Q, stl, cD, vd, eK, eD, eP, stt, nI O, tk, sa, sb, gK, gA, gB, cl, nC, dd, dp, dl, dm, pt, cO, cA, cB, cC, cx, cu, st, pd, pp, pa, pf, pv, es, ew, qh, qc, qk, qv, ou, cm) v') (nI T, nI P, nI C, nI Q, cD, vd, eK, eD, eP, stt, nI L.length, nI O, tk, sa, sb, eq, du, nx, dd, dp, dl, dm, pt, cd, ct, st, yd, yp, ya, yf, hel, mT, mK, mV, ou, eu, ev) := fun r cm r0 r1 =>
      br_f hs ⟨17, wy_f11 (post := fun r' v' => r' = r ∧ i_Rel (k + 5) (nI T, nI P, nI C, nI Q, stl, cD, vd, eK, eD, eP, stt, nI O, tk, sa, sb, gK, gA, gB, cl, nC, dd, dp, dl, dm, pt, cO, cA, cB, cC, cx, cu, st, pd, pp, pa, pf, pv, es, ew, qh, qc, qk, qv, ou, cm) v') h.1 h.2.1 q3 G (fun eu ev I => ⟨17, wy_f81 (post := fun r' v' => r' = r ∧ i_Rel (k + 5) (nI T, nI P, nI C, nI Q, stl, cD, vd, eK, eD, eP, stt, nI O, tk, sa, sb, gK, gA, gB, cl, nC, dd, dp, dl, dm, pt, cO, cA, cB, cC, cx, cu, st, pd, pp, pa, pf, pv, es, ew, qh, qc, qk, qv, ou, cm) v') hW (fun a eu ev => ⟨r0 a, J cm eu ev⟩) (fun a eu ev => ⟨r1 a, J cm eu ev⟩) 17 0 Te eu (by omega) (by omega) I (fun e _ t => t) (fun a => a) (Or.inl (ty_cnt_le Te 16))⟩) 17 0 eu ev (by omega) (by omega) (fun f hf => absurd hf (Nat.not_lt_zero f))⟩
    exact br_f hs ⟨15, wx_f11 C8 G (fun a cm => Y 0 cm (fun _ => rfl) (fun b => absurd b a)) (fun a cm => Y 1 cm (fun b => absurd a b) (fun _ => rfl)) 15 0 cm (by omega) (by omega) (fun v hv => absurd hv (Nat.not_lt_zero v))⟩
end
