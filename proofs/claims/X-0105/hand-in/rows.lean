section
/-! pure rows to paste: stores, nI and lN arithmetic, masks, shifts, narrowing, branches by naturals (pk_le, pk_lt, pk_eq), loops (lp1 .. lp16: the measure of the state; rp1 ..: recursion), negatives. Take what you need -/
theorem pk_us {f : Nat → Int32} {k : Nat} {x : Int32} : upd f k x k = x := if_pos rfl
theorem pk_un {f : Nat → Int32} {k j : Nat} {x : Int32} (h : j ≠ k) : upd f k x j = f j := if_neg h
theorem pk_uLs {f : Nat → Int64} {k : Nat} {x : Int64} : vp_updL f k x k = x := if_pos rfl
theorem pk_uLn {f : Nat → Int64} {k j : Nat} {x : Int64} (h : j ≠ k) : vp_updL f k x j = f j := if_neg h
theorem pk_sub {a b : Nat} (h : b ≤ a) : nI a - nI b = nI (a - b) := by
  obtain ⟨c, rfl⟩ : ∃ c, a = c + b := ⟨a - b, by omega⟩
  rw [← nI_add, Int32.add_sub_cancel, Nat.add_sub_cancel]
theorem pk_m1 (n : Nat) : nI (n + 1) + (-1) = nI n := by
  rw [← nI_1, Int32.add_assoc, show (1 : Int32) + (-1) = 0 from rfl, Int32.add_zero]
theorem pk_mul (a b : Nat) : nI a * nI b = nI (a * b) := (Int32.ofNat_mul a b).symm
theorem pk_div {a d : Nat} (ha : a < 2 ^ 31) (h0 : 0 < d) (hd : d < 2 ^ 31) : nI a / nI d = nI (a / d) := by
  apply Int32.toInt_inj.mp
  rw [lg_idiv_nonneg (by rw [nI_toInt ha]; omega) (by rw [nI_toInt hd]; omega), nI_toInt ha, nI_toInt hd, nI_toInt (Nat.lt_of_le_of_lt (Nat.div_le_self a d) ha)]
  first | rfl | exact (Int.natCast_ediv _ _).symm
theorem pk_rem {a d : Nat} (ha : a < 2 ^ 31) (h0 : 0 < d) (hd : d < 2 ^ 31) : nI a - nI a / nI d * nI d = nI (a % d) := by
  rw [pk_div ha h0 hd, pk_mul, pk_sub (Nat.div_mul_le_self a d)]
  exact congrArg nI (by have := Nat.div_add_mod' a d; omega)
theorem pk_sub_toInt {a b : Nat} (ha : a < 2 ^ 30) (hb : b < 2 ^ 30) : (nI a - nI b).toInt = (a : Int) - b := by
  rw [Int32.toInt_sub, nI_toInt (by omega), nI_toInt (by omega)]
  exact Int.bmod_eq_of_le (by omega) (by omega)
theorem pk_sneg {a b : Nat} (hb : b < 2 ^ 30) (h : a < b) : nI a - nI b < 0 := by
  rw [Int32.lt_iff_toInt_lt, pk_sub_toInt (by omega) hb, show (0 : Int32).toInt = 0 from by decide]
  omega
theorem pk_ix (x : Int32) {n : Nat} (hn : n < 2 ^ 31) : x < 0 ∨ nI n ≤ x ∨ ∃ j : Nat, j < n ∧ x = nI j := by
  by_cases h : x < 0
  · exact Or.inl h
  · obtain ⟨j, hj, rfl⟩ := nI_of h
    by_cases h2 : j < n
    · exact Or.inr (Or.inr ⟨j, h2, rfl⟩)
    · exact Or.inr (Or.inl (nI_le (by omega) hj))
theorem pk_le {x y : Int32} {A B : Prop} (a b : Nat) (f : a ≤ b → A) (g : b < a → B) (hx : x = nI a := by rfl) (hy : y = nI b := by rfl) (ha : a < 2 ^ 31 := by omega) (hb : b < 2 ^ 31 := by omega) : (x ≤ y → A) ∧ (¬ x ≤ y → B) := by
  subst hx hy
  rw [nI_leI ha hb]
  exact ⟨f, fun z => g (by omega)⟩
theorem pk_lt {x y : Int32} {A B : Prop} (a b : Nat) (f : a < b → A) (g : b ≤ a → B) (hx : x = nI a := by rfl) (hy : y = nI b := by rfl) (ha : a < 2 ^ 31 := by omega) (hb : b < 2 ^ 31 := by omega) : (x < y → A) ∧ (¬ x < y → B) := by
  subst hx hy
  rw [nI_ltI ha hb]
  exact ⟨f, fun z => g (by omega)⟩
theorem pk_eq {x y : Int32} {A B : Prop} (a b : Nat) (f : a = b → A) (g : a ≠ b → B) (hx : x = nI a := by rfl) (hy : y = nI b := by rfl) (ha : a < 2 ^ 31 := by omega) (hb : b < 2 ^ 31 := by omega) : (x = y → A) ∧ (¬ x = y → B) := by
  subst hx hy
  rw [nI_eq ha hb]
  exact ⟨f, g⟩
theorem pk_in {x : Int32} (n N : Nat) (h : n < N) (hx : x = nI n := by rfl) (hN : N < 2 ^ 31 := by omega) : vp_in x N := by
  subst hx
  exact vp_in_nI h hN
theorem pk_cl {x : Int32} (n : Nat) (hx : x = nI n := by rfl) (h : n < 2 ^ 31 := by omega) : x.toNatClampNeg = n := by
  subst hx
  exact nI_clamp h
theorem pk_tn {n : Nat} (h : n < 2 ^ 32) : (nI n).toBitVec.toNat = n := Nat.mod_eq_of_lt h
theorem pk_and (x : Int32) {m : Int32} (k : Nat) (hm : m.toBitVec.toNat = 2 ^ k - 1) : x &&& m = nI (x.toBitVec.toNat % 2 ^ k) := by
  apply Int32.toBitVec_inj.mp
  apply BitVec.eq_of_toNat_eq
  rw [Int32.toBitVec_and, BitVec.toNat_and, hm, Nat.and_two_pow_sub_one_eq_mod]
  show _ = (BitVec.ofNat 32 _).toNat
  rw [BitVec.toNat_ofNat]
  exact (Nat.mod_eq_of_lt (Nat.lt_of_le_of_lt (Nat.mod_le _ _) x.toBitVec.isLt)).symm
theorem pk_andN {n : Nat} (h : n < 2 ^ 32) {m : Int32} (k : Nat) (hm : m.toBitVec.toNat = 2 ^ k - 1) : nI n &&& m = nI (n % 2 ^ k) := by
  rw [pk_and _ k hm, pk_tn h]
theorem pk_andE (x : Int32) {m : Int32} (k : Nat) (hm : m.toBitVec.toNat = 2 ^ k - 1) : ∃ j : Nat, j < 2 ^ k ∧ x &&& m = nI j := ⟨_, Nat.mod_lt _ (Nat.two_pow_pos k), pk_and x k hm⟩
theorem pk_andIn (x : Int32) {m : Int32} (k : Nat) (hm : m.toBitVec.toNat = 2 ^ k - 1) (hk : k ≤ 30) : vp_in (x &&& m) (2 ^ k) := by
  obtain ⟨j, hj, e⟩ := pk_andE x k hm
  rw [e]
  exact vp_in_nI hj (Nat.lt_of_le_of_lt (Nat.pow_le_pow_right (by decide) hk) (by decide))
theorem pk_shl (a s : Int32) (k : Nat) (hs : (s.toBitVec.smod 32).toNat = k) : (a <<< s).toBitVec.toNat = a.toBitVec.toNat * 2 ^ k % 2 ^ 32 := by
  show (a.toBitVec <<< (s.toBitVec.smod 32).toNat).toNat = _
  rw [hs, BitVec.toNat_shiftLeft, Nat.shiftLeft_eq]
theorem pk_shlN {n : Nat} (s : Int32) (k : Nat) (hs : (s.toBitVec.smod 32).toNat = k) (h : n * 2 ^ k < 2 ^ 32) : nI n <<< s = nI (n * 2 ^ k) := by
  apply Int32.toBitVec_inj.mp
  apply BitVec.eq_of_toNat_eq
  have hn : n < 2 ^ 32 := Nat.lt_of_le_of_lt (Nat.le_mul_of_pos_right n (Nat.two_pow_pos k)) h
  rw [pk_shl _ _ k hs, pk_tn hn, pk_tn h, Nat.mod_eq_of_lt h]
theorem pk_shr (a s : Int32) (k : Nat) (hs : (s.toBitVec.smod 32).toNat = k) : (a >>> s).toInt = a.toInt >>> k := by
  show (a.toBitVec.sshiftRight (s.toBitVec.smod 32).toNat).toInt = _
  rw [hs, BitVec.toInt_sshiftRight]
  rfl
theorem pk_shrN {n : Nat} (h : n < 2 ^ 31) (s : Int32) (k : Nat) (hs : (s.toBitVec.smod 32).toNat = k) : nI n >>> s = nI (n / 2 ^ k) := by
  apply Int32.toInt_inj.mp
  have h2 : n / 2 ^ k ≤ n := Nat.div_le_self _ _
  rw [pk_shr _ _ k hs, nI_toInt h, nI_toInt (by omega), Int.shiftRight_eq_div_pow]
  rfl
theorem pk_ushr (x s : Int32) (k : Nat) (hs : ((s.toUInt32 &&& Int32.toUInt32 31).toBitVec % 32).toNat = k) : (x.toUInt32 >>> (s.toUInt32 &&& Int32.toUInt32 31)).toInt32.toBitVec.toNat = x.toBitVec.toNat / 2 ^ k := by
  have e : (x.toUInt32 >>> (s.toUInt32 &&& Int32.toUInt32 31)).toInt32.toBitVec = x.toBitVec >>> k := by
    rw [← hs]
    exact UInt32.toBitVec_shiftRight _ _
  rw [e, BitVec.toNat_ushiftRight, Nat.shiftRight_eq_div_pow]
theorem pk_ushrN {n : Nat} (hn : n < 2 ^ 32) (s : Int32) (k : Nat) (hs : ((s.toUInt32 &&& Int32.toUInt32 31).toBitVec % 32).toNat = k) : ((nI n).toUInt32 >>> (s.toUInt32 &&& Int32.toUInt32 31)).toInt32 = nI (n / 2 ^ k) := by
  apply Int32.toBitVec_inj.mp
  apply BitVec.eq_of_toNat_eq
  rw [pk_ushr _ s k hs, pk_tn hn, pk_tn (Nat.lt_of_le_of_lt (Nat.div_le_self _ _) hn)]
theorem pk_nb (z : Int32) : narrow .byte (.int z.toInt8.toInt32) = .int z.toInt8.toInt32 := congrArg Value.int (by simp)
theorem pk_ns (z : Int32) : narrow .short (.int z.toInt16.toInt32) = .int z.toInt16.toInt32 := congrArg Value.int (by simp)
theorem pk_fb (r : Int32) : fits .byte (.int r.toInt8.toInt32) = true := by
  have ⟨a, b⟩ := lg_i2b_range r
  have h1 : (-128 : Int32).toInt = -128 := by decide
  have h2 : (127 : Int32).toInt = 127 := by decide
  simp only [fits, Bool.and_eq_true, decide_eq_true_eq, Int32.le_iff_toInt_le, h1, h2]
  omega
theorem pk_fs (r : Int32) : fits .short (.int r.toInt16.toInt32) = true := by
  have ⟨a, b⟩ := lg_i2s_range r
  have h1 : (-32768 : Int32).toInt = -32768 := by decide
  have h2 : (32767 : Int32).toInt = 32767 := by decide
  simp only [fits, Bool.and_eq_true, decide_eq_true_eq, Int32.le_iff_toInt_le, h1, h2]
  omega
theorem pk_charN {q : Nat} (hq : q < 65536) : narrow .char (.int (nI q)) = .int (nI q) ∧ fits .char (.int (nI q)) = true := by
  constructor
  · have e : (nI q).toUInt32.toUInt16.toUInt32.toInt32 = nI q := by
      apply Int32.toBitVec_inj.mp
      apply BitVec.eq_of_toNat_eq
      show (nI q).toUInt32.toUInt16.toUInt32.toNat = q % 2 ^ 32
      rw [UInt16.toNat_toUInt32, UInt32.toNat_toUInt16, show (nI q).toUInt32.toNat = q % 2 ^ 32 from rfl]
      omega
    exact congrArg Value.int e
  · have a : (0 : Int32) ≤ nI q := nI_pos' (by omega)
    have b : nI q ≤ 65535 := nI_le (b := 65535) (by omega) (by decide)
    show (decide ((0 : Int32) ≤ nI q) && decide (nI q ≤ 65535)) = true
    rw [decide_eq_true a, decide_eq_true b]
    rfl
theorem pk_char (x : Int32) : (x.toUInt32 % 65536).toInt32 = nI (x.toBitVec.toNat % 65536) := by
  apply Int32.toBitVec_inj.mp
  apply BitVec.eq_of_toNat_eq
  rw [pk_tn (by omega)]
  show (x.toUInt32 % 65536).toNat = _
  rw [UInt32.toNat_mod]
  rfl
theorem pk_nc (x : Int32) : narrow .char (.int (x.toUInt32 % 65536).toInt32) = .int (x.toUInt32 % 65536).toInt32 := by
  rw [pk_char]
  exact (pk_charN (Nat.mod_lt _ (by decide))).1
theorem pk_fc (x : Int32) : fits .char (.int (x.toUInt32 % 65536).toInt32) = true := by
  rw [pk_char]
  exact (pk_charN (Nat.mod_lt _ (by decide))).2
theorem pk_vb (z : Int32) : vp_nar .byte z.toInt8.toInt32 = z.toInt8.toInt32 := by rw [vp_nar_byte]; simp
theorem pk_vs (z : Int32) : vp_nar .short z.toInt16.toInt32 = z.toInt16.toInt32 := by rw [vp_nar_short]; simp
theorem pk_vc (z : Int32) : vp_nar .char (z.toUInt32 % 65536).toInt32 = (z.toUInt32 % 65536).toInt32 := Value.int.inj (pk_nc z)
theorem pk_lT {n : Nat} (h : n < 2 ^ 63) : (lN n).toInt = (n : Int) := lg_ofNat_toInt h
theorem pk_lLT {a b : Nat} (ha : a < 2 ^ 63) (hb : b < 2 ^ 63) : lN a < lN b ↔ a < b := by
  rw [Int64.lt_iff_toInt_lt, pk_lT ha, pk_lT hb]; omega
theorem pk_lLE {a b : Nat} (ha : a < 2 ^ 63) (hb : b < 2 ^ 63) : lN a ≤ lN b ↔ a ≤ b := by
  rw [Int64.le_iff_toInt_le, pk_lT ha, pk_lT hb]; omega
theorem pk_lEQ {a b : Nat} (ha : a < 2 ^ 63) (hb : b < 2 ^ 63) : lN a = lN b ↔ a = b := by
  rw [← Int64.toInt_inj, pk_lT ha, pk_lT hb]; omega
theorem pk_lOf {x : Int64} (h : ¬ x < 0) : ∃ k : Nat, k < 2 ^ 63 ∧ x = lN k := by
  rw [Int64.lt_iff_toInt_lt] at h
  have h0 : (0 : Int64).toInt = 0 := by decide
  have hx := Int64.toInt_lt x
  refine ⟨x.toInt.toNat, by omega, Int64.toInt_inj.mp ?_⟩
  rw [pk_lT (by omega)]
  omega
theorem pk_lDiv {a b : Nat} (ha : a < 2 ^ 63) (h0 : 0 < b) (hb : b < 2 ^ 63) : lN a / lN b = lN (a / b) := by
  apply Int64.toInt_inj.mp
  rw [lg_ldiv_nonneg (by rw [pk_lT ha]; omega) (by rw [pk_lT hb]; omega), pk_lT ha, pk_lT hb, pk_lT (Nat.lt_of_le_of_lt (Nat.div_le_self a b) ha)]
  rfl
theorem pk_lRem {a b : Nat} (ha : a < 2 ^ 63) (h0 : 0 < b) (hb : b < 2 ^ 63) : lN a - lN a / lN b * lN b = lN (a % b) := by
  rw [pk_lDiv ha h0 hb, lN_mul, lN_sub (Nat.div_mul_le_self a b)]
  exact congrArg lN (by have := Nat.div_add_mod' a b; omega)
theorem pk_loop {σ : Type} (W : Nat → Nat → σ → Prop) (I : Nat → σ → Prop) (e i0 : Nat) (s : σ) (hi : i0 ≤ e) (h0 : I i0 s) (hx : ∀ n s, I e s → W (n + 1) e s)
    (hs : ∀ n i s, i < e → I i s → (∀ s', I (i + 1) s' → W n (i + 1) s') → W (n + 1) i s) : ∃ n, W n i0 s :=
  ⟨e + 1, loop_i W I e hx hs (e + 1) i0 s hi (by omega) h0⟩
theorem pk_loopD {σ : Type} (W : Nat → Nat → σ → Prop) (I : Nat → σ → Prop) (hx : ∀ n s, I 0 s → W (n + 1) 0 s)
    (hs : ∀ n i s, I (i + 1) s → (∀ s', I i s' → W n i s') → W (n + 1) (i + 1) s) : ∀ (e : Nat) (s : σ), I e s → W (e + 1) e s := by
  intro e
  induction e with
  | zero => exact fun s h => hx 0 s h
  | succ e ih => exact fun s h => hs (e + 1) e s h (fun s' h' => ih s' h')
theorem lp1 {A1 : Type} (W : Nat → A1 → Prop) (I : A1 → Prop) (μ : A1 → Nat) (hs : ∀ (n : Nat) (a1 : A1), I a1 → (∀ (b1 : A1), I b1 → μ b1 < μ a1 → W n b1) → W (n + 1) a1) (a1 : A1) (h : I a1) : ∃ n, W n a1 :=
  loop_m (σ := A1) (fun n s => W n s) (fun s => I s) (fun s => μ s) (fun n s hI hk => hs n s hI (fun b1 h9 hm => hk b1 h9 hm)) a1 h
theorem lp2 {A1 A2 : Type} (W : Nat → A1 → A2 → Prop) (I : A1 → A2 → Prop) (μ : A1 → A2 → Nat) (hs : ∀ (n : Nat) (a1 : A1) (a2 : A2), I a1 a2 → (∀ (b1 : A1) (b2 : A2), I b1 b2 → μ b1 b2 < μ a1 a2 → W n b1 b2) → W (n + 1) a1 a2) (a1 : A1) (a2 : A2) (h : I a1 a2) : ∃ n, W n a1 a2 :=
  loop_m (σ := A1 × A2) (fun n s => W n s.1 s.2) (fun s => I s.1 s.2) (fun s => μ s.1 s.2) (fun n s hI hk => hs n s.1 s.2 hI (fun b1 b2 h9 hm => hk (b1, b2) h9 hm)) (a1, a2) h
theorem lp3 {A1 A2 A3 : Type} (W : Nat → A1 → A2 → A3 → Prop) (I : A1 → A2 → A3 → Prop) (μ : A1 → A2 → A3 → Nat) (hs : ∀ (n : Nat) (a1 : A1) (a2 : A2) (a3 : A3), I a1 a2 a3 → (∀ (b1 : A1) (b2 : A2) (b3 : A3), I b1 b2 b3 → μ b1 b2 b3 < μ a1 a2 a3 → W n b1 b2 b3) → W (n + 1) a1 a2 a3) (a1 : A1) (a2 : A2) (a3 : A3) (h : I a1 a2 a3) : ∃ n, W n a1 a2 a3 :=
  loop_m (σ := A1 × A2 × A3) (fun n s => W n s.1 s.2.1 s.2.2) (fun s => I s.1 s.2.1 s.2.2) (fun s => μ s.1 s.2.1 s.2.2) (fun n s hI hk => hs n s.1 s.2.1 s.2.2 hI (fun b1 b2 b3 h9 hm => hk (b1, b2, b3) h9 hm)) (a1, a2, a3) h
theorem lp4 {A1 A2 A3 A4 : Type} (W : Nat → A1 → A2 → A3 → A4 → Prop) (I : A1 → A2 → A3 → A4 → Prop) (μ : A1 → A2 → A3 → A4 → Nat) (hs : ∀ (n : Nat) (a1 : A1) (a2 : A2) (a3 : A3) (a4 : A4), I a1 a2 a3 a4 → (∀ (b1 : A1) (b2 : A2) (b3 : A3) (b4 : A4), I b1 b2 b3 b4 → μ b1 b2 b3 b4 < μ a1 a2 a3 a4 → W n b1 b2 b3 b4) → W (n + 1) a1 a2 a3 a4) (a1 : A1) (a2 : A2) (a3 : A3) (a4 : A4) (h : I a1 a2 a3 a4) : ∃ n, W n a1 a2 a3 a4 :=
  loop_m (σ := A1 × A2 × A3 × A4) (fun n s => W n s.1 s.2.1 s.2.2.1 s.2.2.2) (fun s => I s.1 s.2.1 s.2.2.1 s.2.2.2) (fun s => μ s.1 s.2.1 s.2.2.1 s.2.2.2) (fun n s hI hk => hs n s.1 s.2.1 s.2.2.1 s.2.2.2 hI (fun b1 b2 b3 b4 h9 hm => hk (b1, b2, b3, b4) h9 hm)) (a1, a2, a3, a4) h
theorem lp5 {A1 A2 A3 A4 A5 : Type} (W : Nat → A1 → A2 → A3 → A4 → A5 → Prop) (I : A1 → A2 → A3 → A4 → A5 → Prop) (μ : A1 → A2 → A3 → A4 → A5 → Nat) (hs : ∀ (n : Nat) (a1 : A1) (a2 : A2) (a3 : A3) (a4 : A4) (a5 : A5), I a1 a2 a3 a4 a5 → (∀ (b1 : A1) (b2 : A2) (b3 : A3) (b4 : A4) (b5 : A5), I b1 b2 b3 b4 b5 → μ b1 b2 b3 b4 b5 < μ a1 a2 a3 a4 a5 → W n b1 b2 b3 b4 b5) → W (n + 1) a1 a2 a3 a4 a5) (a1 : A1) (a2 : A2) (a3 : A3) (a4 : A4) (a5 : A5) (h : I a1 a2 a3 a4 a5) : ∃ n, W n a1 a2 a3 a4 a5 :=
  loop_m (σ := A1 × A2 × A3 × A4 × A5) (fun n s => W n s.1 s.2.1 s.2.2.1 s.2.2.2.1 s.2.2.2.2) (fun s => I s.1 s.2.1 s.2.2.1 s.2.2.2.1 s.2.2.2.2) (fun s => μ s.1 s.2.1 s.2.2.1 s.2.2.2.1 s.2.2.2.2) (fun n s hI hk => hs n s.1 s.2.1 s.2.2.1 s.2.2.2.1 s.2.2.2.2 hI (fun b1 b2 b3 b4 b5 h9 hm => hk (b1, b2, b3, b4, b5) h9 hm)) (a1, a2, a3, a4, a5) h
theorem lp6 {A1 A2 A3 A4 A5 A6 : Type} (W : Nat → A1 → A2 → A3 → A4 → A5 → A6 → Prop) (I : A1 → A2 → A3 → A4 → A5 → A6 → Prop) (μ : A1 → A2 → A3 → A4 → A5 → A6 → Nat) (hs : ∀ (n : Nat) (a1 : A1) (a2 : A2) (a3 : A3) (a4 : A4) (a5 : A5) (a6 : A6), I a1 a2 a3 a4 a5 a6 → (∀ (b1 : A1) (b2 : A2) (b3 : A3) (b4 : A4) (b5 : A5) (b6 : A6), I b1 b2 b3 b4 b5 b6 → μ b1 b2 b3 b4 b5 b6 < μ a1 a2 a3 a4 a5 a6 → W n b1 b2 b3 b4 b5 b6) → W (n + 1) a1 a2 a3 a4 a5 a6) (a1 : A1) (a2 : A2) (a3 : A3) (a4 : A4) (a5 : A5) (a6 : A6) (h : I a1 a2 a3 a4 a5 a6) : ∃ n, W n a1 a2 a3 a4 a5 a6 :=
  loop_m (σ := A1 × A2 × A3 × A4 × A5 × A6) (fun n s => W n s.1 s.2.1 s.2.2.1 s.2.2.2.1 s.2.2.2.2.1 s.2.2.2.2.2) (fun s => I s.1 s.2.1 s.2.2.1 s.2.2.2.1 s.2.2.2.2.1 s.2.2.2.2.2) (fun s => μ s.1 s.2.1 s.2.2.1 s.2.2.2.1 s.2.2.2.2.1 s.2.2.2.2.2) (fun n s hI hk => hs n s.1 s.2.1 s.2.2.1 s.2.2.2.1 s.2.2.2.2.1 s.2.2.2.2.2 hI (fun b1 b2 b3 b4 b5 b6 h9 hm => hk (b1, b2, b3, b4, b5, b6) h9 hm)) (a1, a2, a3, a4, a5, a6) h
theorem lp7 {A1 A2 A3 A4 A5 A6 A7 : Type} (W : Nat → A1 → A2 → A3 → A4 → A5 → A6 → A7 → Prop) (I : A1 → A2 → A3 → A4 → A5 → A6 → A7 → Prop) (μ : A1 → A2 → A3 → A4 → A5 → A6 → A7 → Nat) (hs : ∀ (n : Nat) (a1 : A1) (a2 : A2) (a3 : A3) (a4 : A4) (a5 : A5) (a6 : A6) (a7 : A7), I a1 a2 a3 a4 a5 a6 a7 → (∀ (b1 : A1) (b2 : A2) (b3 : A3) (b4 : A4) (b5 : A5) (b6 : A6) (b7 : A7), I b1 b2 b3 b4 b5 b6 b7 → μ b1 b2 b3 b4 b5 b6 b7 < μ a1 a2 a3 a4 a5 a6 a7 → W n b1 b2 b3 b4 b5 b6 b7) → W (n + 1) a1 a2 a3 a4 a5 a6 a7) (a1 : A1) (a2 : A2) (a3 : A3) (a4 : A4) (a5 : A5) (a6 : A6) (a7 : A7) (h : I a1 a2 a3 a4 a5 a6 a7) : ∃ n, W n a1 a2 a3 a4 a5 a6 a7 :=
  loop_m (σ := A1 × A2 × A3 × A4 × A5 × A6 × A7) (fun n s => W n s.1 s.2.1 s.2.2.1 s.2.2.2.1 s.2.2.2.2.1 s.2.2.2.2.2.1 s.2.2.2.2.2.2) (fun s => I s.1 s.2.1 s.2.2.1 s.2.2.2.1 s.2.2.2.2.1 s.2.2.2.2.2.1 s.2.2.2.2.2.2) (fun s => μ s.1 s.2.1 s.2.2.1 s.2.2.2.1 s.2.2.2.2.1 s.2.2.2.2.2.1 s.2.2.2.2.2.2) (fun n s hI hk => hs n s.1 s.2.1 s.2.2.1 s.2.2.2.1 s.2.2.2.2.1 s.2.2.2.2.2.1 s.2.2.2.2.2.2 hI (fun b1 b2 b3 b4 b5 b6 b7 h9 hm => hk (b1, b2, b3, b4, b5, b6, b7) h9 hm)) (a1, a2, a3, a4, a5, a6, a7) h
theorem lp8 {A1 A2 A3 A4 A5 A6 A7 A8 : Type} (W : Nat → A1 → A2 → A3 → A4 → A5 → A6 → A7 → A8 → Prop) (I : A1 → A2 → A3 → A4 → A5 → A6 → A7 → A8 → Prop) (μ : A1 → A2 → A3 → A4 → A5 → A6 → A7 → A8 → Nat) (hs : ∀ (n : Nat) (a1 : A1) (a2 : A2) (a3 : A3) (a4 : A4) (a5 : A5) (a6 : A6) (a7 : A7) (a8 : A8), I a1 a2 a3 a4 a5 a6 a7 a8 → (∀ (b1 : A1) (b2 : A2) (b3 : A3) (b4 : A4) (b5 : A5) (b6 : A6) (b7 : A7) (b8 : A8), I b1 b2 b3 b4 b5 b6 b7 b8 → μ b1 b2 b3 b4 b5 b6 b7 b8 < μ a1 a2 a3 a4 a5 a6 a7 a8 → W n b1 b2 b3 b4 b5 b6 b7 b8) → W (n + 1) a1 a2 a3 a4 a5 a6 a7 a8) (a1 : A1) (a2 : A2) (a3 : A3) (a4 : A4) (a5 : A5) (a6 : A6) (a7 : A7) (a8 : A8) (h : I a1 a2 a3 a4 a5 a6 a7 a8) : ∃ n, W n a1 a2 a3 a4 a5 a6 a7 a8 :=
  loop_m (σ := A1 × A2 × A3 × A4 × A5 × A6 × A7 × A8) (fun n s => W n s.1 s.2.1 s.2.2.1 s.2.2.2.1 s.2.2.2.2.1 s.2.2.2.2.2.1 s.2.2.2.2.2.2.1 s.2.2.2.2.2.2.2) (fun s => I s.1 s.2.1 s.2.2.1 s.2.2.2.1 s.2.2.2.2.1 s.2.2.2.2.2.1 s.2.2.2.2.2.2.1 s.2.2.2.2.2.2.2) (fun s => μ s.1 s.2.1 s.2.2.1 s.2.2.2.1 s.2.2.2.2.1 s.2.2.2.2.2.1 s.2.2.2.2.2.2.1 s.2.2.2.2.2.2.2) (fun n s hI hk => hs n s.1 s.2.1 s.2.2.1 s.2.2.2.1 s.2.2.2.2.1 s.2.2.2.2.2.1 s.2.2.2.2.2.2.1 s.2.2.2.2.2.2.2 hI (fun b1 b2 b3 b4 b5 b6 b7 b8 h9 hm => hk (b1, b2, b3, b4, b5, b6, b7, b8) h9 hm)) (a1, a2, a3, a4, a5, a6, a7, a8) h
theorem lp9 {A1 A2 A3 A4 A5 A6 A7 A8 A9 : Type} (W : Nat → A1 → A2 → A3 → A4 → A5 → A6 → A7 → A8 → A9 → Prop) (I : A1 → A2 → A3 → A4 → A5 → A6 → A7 → A8 → A9 → Prop) (μ : A1 → A2 → A3 → A4 → A5 → A6 → A7 → A8 → A9 → Nat) (hs : ∀ (n : Nat) (a1 : A1) (a2 : A2) (a3 : A3) (a4 : A4) (a5 : A5) (a6 : A6) (a7 : A7) (a8 : A8) (a9 : A9), I a1 a2 a3 a4 a5 a6 a7 a8 a9 → (∀ (b1 : A1) (b2 : A2) (b3 : A3) (b4 : A4) (b5 : A5) (b6 : A6) (b7 : A7) (b8 : A8) (b9 : A9), I b1 b2 b3 b4 b5 b6 b7 b8 b9 → μ b1 b2 b3 b4 b5 b6 b7 b8 b9 < μ a1 a2 a3 a4 a5 a6 a7 a8 a9 → W n b1 b2 b3 b4 b5 b6 b7 b8 b9) → W (n + 1) a1 a2 a3 a4 a5 a6 a7 a8 a9) (a1 : A1) (a2 : A2) (a3 : A3) (a4 : A4) (a5 : A5) (a6 : A6) (a7 : A7) (a8 : A8) (a9 : A9) (h : I a1 a2 a3 a4 a5 a6 a7 a8 a9) : ∃ n, W n a1 a2 a3 a4 a5 a6 a7 a8 a9 :=
  loop_m (σ := A1 × A2 × A3 × A4 × A5 × A6 × A7 × A8 × A9) (fun n s => W n s.1 s.2.1 s.2.2.1 s.2.2.2.1 s.2.2.2.2.1 s.2.2.2.2.2.1 s.2.2.2.2.2.2.1 s.2.2.2.2.2.2.2.1 s.2.2.2.2.2.2.2.2) (fun s => I s.1 s.2.1 s.2.2.1 s.2.2.2.1 s.2.2.2.2.1 s.2.2.2.2.2.1 s.2.2.2.2.2.2.1 s.2.2.2.2.2.2.2.1 s.2.2.2.2.2.2.2.2) (fun s => μ s.1 s.2.1 s.2.2.1 s.2.2.2.1 s.2.2.2.2.1 s.2.2.2.2.2.1 s.2.2.2.2.2.2.1 s.2.2.2.2.2.2.2.1 s.2.2.2.2.2.2.2.2) (fun n s hI hk => hs n s.1 s.2.1 s.2.2.1 s.2.2.2.1 s.2.2.2.2.1 s.2.2.2.2.2.1 s.2.2.2.2.2.2.1 s.2.2.2.2.2.2.2.1 s.2.2.2.2.2.2.2.2 hI (fun b1 b2 b3 b4 b5 b6 b7 b8 b9 h9 hm => hk (b1, b2, b3, b4, b5, b6, b7, b8, b9) h9 hm)) (a1, a2, a3, a4, a5, a6, a7, a8, a9) h
theorem lp10 {A1 A2 A3 A4 A5 A6 A7 A8 A9 A10 : Type} (W : Nat → A1 → A2 → A3 → A4 → A5 → A6 → A7 → A8 → A9 → A10 → Prop) (I : A1 → A2 → A3 → A4 → A5 → A6 → A7 → A8 → A9 → A10 → Prop) (μ : A1 → A2 → A3 → A4 → A5 → A6 → A7 → A8 → A9 → A10 → Nat) (hs : ∀ (n : Nat) (a1 : A1) (a2 : A2) (a3 : A3) (a4 : A4) (a5 : A5) (a6 : A6) (a7 : A7) (a8 : A8) (a9 : A9) (a10 : A10), I a1 a2 a3 a4 a5 a6 a7 a8 a9 a10 → (∀ (b1 : A1) (b2 : A2) (b3 : A3) (b4 : A4) (b5 : A5) (b6 : A6) (b7 : A7) (b8 : A8) (b9 : A9) (b10 : A10), I b1 b2 b3 b4 b5 b6 b7 b8 b9 b10 → μ b1 b2 b3 b4 b5 b6 b7 b8 b9 b10 < μ a1 a2 a3 a4 a5 a6 a7 a8 a9 a10 → W n b1 b2 b3 b4 b5 b6 b7 b8 b9 b10) → W (n + 1) a1 a2 a3 a4 a5 a6 a7 a8 a9 a10) (a1 : A1) (a2 : A2) (a3 : A3) (a4 : A4) (a5 : A5) (a6 : A6) (a7 : A7) (a8 : A8) (a9 : A9) (a10 : A10) (h : I a1 a2 a3 a4 a5 a6 a7 a8 a9 a10) : ∃ n, W n a1 a2 a3 a4 a5 a6 a7 a8 a9 a10 :=
  loop_m (σ := A1 × A2 × A3 × A4 × A5 × A6 × A7 × A8 × A9 × A10) (fun n s => W n s.1 s.2.1 s.2.2.1 s.2.2.2.1 s.2.2.2.2.1 s.2.2.2.2.2.1 s.2.2.2.2.2.2.1 s.2.2.2.2.2.2.2.1 s.2.2.2.2.2.2.2.2.1 s.2.2.2.2.2.2.2.2.2) (fun s => I s.1 s.2.1 s.2.2.1 s.2.2.2.1 s.2.2.2.2.1 s.2.2.2.2.2.1 s.2.2.2.2.2.2.1 s.2.2.2.2.2.2.2.1 s.2.2.2.2.2.2.2.2.1 s.2.2.2.2.2.2.2.2.2) (fun s => μ s.1 s.2.1 s.2.2.1 s.2.2.2.1 s.2.2.2.2.1 s.2.2.2.2.2.1 s.2.2.2.2.2.2.1 s.2.2.2.2.2.2.2.1 s.2.2.2.2.2.2.2.2.1 s.2.2.2.2.2.2.2.2.2) (fun n s hI hk => hs n s.1 s.2.1 s.2.2.1 s.2.2.2.1 s.2.2.2.2.1 s.2.2.2.2.2.1 s.2.2.2.2.2.2.1 s.2.2.2.2.2.2.2.1 s.2.2.2.2.2.2.2.2.1 s.2.2.2.2.2.2.2.2.2 hI (fun b1 b2 b3 b4 b5 b6 b7 b8 b9 b10 h9 hm => hk (b1, b2, b3, b4, b5, b6, b7, b8, b9, b10) h9 hm)) (a1, a2, a3, a4, a5, a6, a7, a8, a9, a10) h
theorem lp11 {A1 A2 A3 A4 A5 A6 A7 A8 A9 A10 A11 : Type} (W : Nat → A1 → A2 → A3 → A4 → A5 → A6 → A7 → A8 → A9 → A10 → A11 → Prop) (I : A1 → A2 → A3 → A4 → A5 → A6 → A7 → A8 → A9 → A10 → A11 → Prop) (μ : A1 → A2 → A3 → A4 → A5 → A6 → A7 → A8 → A9 → A10 → A11 → Nat) (hs : ∀ (n : Nat) (a1 : A1) (a2 : A2) (a3 : A3) (a4 : A4) (a5 : A5) (a6 : A6) (a7 : A7) (a8 : A8) (a9 : A9) (a10 : A10) (a11 : A11), I a1 a2 a3 a4 a5 a6 a7 a8 a9 a10 a11 → (∀ (b1 : A1) (b2 : A2) (b3 : A3) (b4 : A4) (b5 : A5) (b6 : A6) (b7 : A7) (b8 : A8) (b9 : A9) (b10 : A10) (b11 : A11), I b1 b2 b3 b4 b5 b6 b7 b8 b9 b10 b11 → μ b1 b2 b3 b4 b5 b6 b7 b8 b9 b10 b11 < μ a1 a2 a3 a4 a5 a6 a7 a8 a9 a10 a11 → W n b1 b2 b3 b4 b5 b6 b7 b8 b9 b10 b11) → W (n + 1) a1 a2 a3 a4 a5 a6 a7 a8 a9 a10 a11) (a1 : A1) (a2 : A2) (a3 : A3) (a4 : A4) (a5 : A5) (a6 : A6) (a7 : A7) (a8 : A8) (a9 : A9) (a10 : A10) (a11 : A11) (h : I a1 a2 a3 a4 a5 a6 a7 a8 a9 a10 a11) : ∃ n, W n a1 a2 a3 a4 a5 a6 a7 a8 a9 a10 a11 :=
  loop_m (σ := A1 × A2 × A3 × A4 × A5 × A6 × A7 × A8 × A9 × A10 × A11) (fun n s => W n s.1 s.2.1 s.2.2.1 s.2.2.2.1 s.2.2.2.2.1 s.2.2.2.2.2.1 s.2.2.2.2.2.2.1 s.2.2.2.2.2.2.2.1 s.2.2.2.2.2.2.2.2.1 s.2.2.2.2.2.2.2.2.2.1 s.2.2.2.2.2.2.2.2.2.2) (fun s => I s.1 s.2.1 s.2.2.1 s.2.2.2.1 s.2.2.2.2.1 s.2.2.2.2.2.1 s.2.2.2.2.2.2.1 s.2.2.2.2.2.2.2.1 s.2.2.2.2.2.2.2.2.1 s.2.2.2.2.2.2.2.2.2.1 s.2.2.2.2.2.2.2.2.2.2) (fun s => μ s.1 s.2.1 s.2.2.1 s.2.2.2.1 s.2.2.2.2.1 s.2.2.2.2.2.1 s.2.2.2.2.2.2.1 s.2.2.2.2.2.2.2.1 s.2.2.2.2.2.2.2.2.1 s.2.2.2.2.2.2.2.2.2.1 s.2.2.2.2.2.2.2.2.2.2) (fun n s hI hk => hs n s.1 s.2.1 s.2.2.1 s.2.2.2.1 s.2.2.2.2.1 s.2.2.2.2.2.1 s.2.2.2.2.2.2.1 s.2.2.2.2.2.2.2.1 s.2.2.2.2.2.2.2.2.1 s.2.2.2.2.2.2.2.2.2.1 s.2.2.2.2.2.2.2.2.2.2 hI (fun b1 b2 b3 b4 b5 b6 b7 b8 b9 b10 b11 h9 hm => hk (b1, b2, b3, b4, b5, b6, b7, b8, b9, b10, b11) h9 hm)) (a1, a2, a3, a4, a5, a6, a7, a8, a9, a10, a11) h
theorem lp12 {A1 A2 A3 A4 A5 A6 A7 A8 A9 A10 A11 A12 : Type} (W : Nat → A1 → A2 → A3 → A4 → A5 → A6 → A7 → A8 → A9 → A10 → A11 → A12 → Prop) (I : A1 → A2 → A3 → A4 → A5 → A6 → A7 → A8 → A9 → A10 → A11 → A12 → Prop) (μ : A1 → A2 → A3 → A4 → A5 → A6 → A7 → A8 → A9 → A10 → A11 → A12 → Nat) (hs : ∀ (n : Nat) (a1 : A1) (a2 : A2) (a3 : A3) (a4 : A4) (a5 : A5) (a6 : A6) (a7 : A7) (a8 : A8) (a9 : A9) (a10 : A10) (a11 : A11) (a12 : A12), I a1 a2 a3 a4 a5 a6 a7 a8 a9 a10 a11 a12 → (∀ (b1 : A1) (b2 : A2) (b3 : A3) (b4 : A4) (b5 : A5) (b6 : A6) (b7 : A7) (b8 : A8) (b9 : A9) (b10 : A10) (b11 : A11) (b12 : A12), I b1 b2 b3 b4 b5 b6 b7 b8 b9 b10 b11 b12 → μ b1 b2 b3 b4 b5 b6 b7 b8 b9 b10 b11 b12 < μ a1 a2 a3 a4 a5 a6 a7 a8 a9 a10 a11 a12 → W n b1 b2 b3 b4 b5 b6 b7 b8 b9 b10 b11 b12) → W (n + 1) a1 a2 a3 a4 a5 a6 a7 a8 a9 a10 a11 a12) (a1 : A1) (a2 : A2) (a3 : A3) (a4 : A4) (a5 : A5) (a6 : A6) (a7 : A7) (a8 : A8) (a9 : A9) (a10 : A10) (a11 : A11) (a12 : A12) (h : I a1 a2 a3 a4 a5 a6 a7 a8 a9 a10 a11 a12) : ∃ n, W n a1 a2 a3 a4 a5 a6 a7 a8 a9 a10 a11 a12 :=
  loop_m (σ := A1 × A2 × A3 × A4 × A5 × A6 × A7 × A8 × A9 × A10 × A11 × A12) (fun n s => W n s.1 s.2.1 s.2.2.1 s.2.2.2.1 s.2.2.2.2.1 s.2.2.2.2.2.1 s.2.2.2.2.2.2.1 s.2.2.2.2.2.2.2.1 s.2.2.2.2.2.2.2.2.1 s.2.2.2.2.2.2.2.2.2.1 s.2.2.2.2.2.2.2.2.2.2.1 s.2.2.2.2.2.2.2.2.2.2.2) (fun s => I s.1 s.2.1 s.2.2.1 s.2.2.2.1 s.2.2.2.2.1 s.2.2.2.2.2.1 s.2.2.2.2.2.2.1 s.2.2.2.2.2.2.2.1 s.2.2.2.2.2.2.2.2.1 s.2.2.2.2.2.2.2.2.2.1 s.2.2.2.2.2.2.2.2.2.2.1 s.2.2.2.2.2.2.2.2.2.2.2) (fun s => μ s.1 s.2.1 s.2.2.1 s.2.2.2.1 s.2.2.2.2.1 s.2.2.2.2.2.1 s.2.2.2.2.2.2.1 s.2.2.2.2.2.2.2.1 s.2.2.2.2.2.2.2.2.1 s.2.2.2.2.2.2.2.2.2.1 s.2.2.2.2.2.2.2.2.2.2.1 s.2.2.2.2.2.2.2.2.2.2.2) (fun n s hI hk => hs n s.1 s.2.1 s.2.2.1 s.2.2.2.1 s.2.2.2.2.1 s.2.2.2.2.2.1 s.2.2.2.2.2.2.1 s.2.2.2.2.2.2.2.1 s.2.2.2.2.2.2.2.2.1 s.2.2.2.2.2.2.2.2.2.1 s.2.2.2.2.2.2.2.2.2.2.1 s.2.2.2.2.2.2.2.2.2.2.2 hI (fun b1 b2 b3 b4 b5 b6 b7 b8 b9 b10 b11 b12 h9 hm => hk (b1, b2, b3, b4, b5, b6, b7, b8, b9, b10, b11, b12) h9 hm)) (a1, a2, a3, a4, a5, a6, a7, a8, a9, a10, a11, a12) h
theorem lp13 {A1 A2 A3 A4 A5 A6 A7 A8 A9 A10 A11 A12 A13 : Type} (W : Nat → A1 → A2 → A3 → A4 → A5 → A6 → A7 → A8 → A9 → A10 → A11 → A12 → A13 → Prop) (I : A1 → A2 → A3 → A4 → A5 → A6 → A7 → A8 → A9 → A10 → A11 → A12 → A13 → Prop) (μ : A1 → A2 → A3 → A4 → A5 → A6 → A7 → A8 → A9 → A10 → A11 → A12 → A13 → Nat) (hs : ∀ (n : Nat) (a1 : A1) (a2 : A2) (a3 : A3) (a4 : A4) (a5 : A5) (a6 : A6) (a7 : A7) (a8 : A8) (a9 : A9) (a10 : A10) (a11 : A11) (a12 : A12) (a13 : A13), I a1 a2 a3 a4 a5 a6 a7 a8 a9 a10 a11 a12 a13 → (∀ (b1 : A1) (b2 : A2) (b3 : A3) (b4 : A4) (b5 : A5) (b6 : A6) (b7 : A7) (b8 : A8) (b9 : A9) (b10 : A10) (b11 : A11) (b12 : A12) (b13 : A13), I b1 b2 b3 b4 b5 b6 b7 b8 b9 b10 b11 b12 b13 → μ b1 b2 b3 b4 b5 b6 b7 b8 b9 b10 b11 b12 b13 < μ a1 a2 a3 a4 a5 a6 a7 a8 a9 a10 a11 a12 a13 → W n b1 b2 b3 b4 b5 b6 b7 b8 b9 b10 b11 b12 b13) → W (n + 1) a1 a2 a3 a4 a5 a6 a7 a8 a9 a10 a11 a12 a13) (a1 : A1) (a2 : A2) (a3 : A3) (a4 : A4) (a5 : A5) (a6 : A6) (a7 : A7) (a8 : A8) (a9 : A9) (a10 : A10) (a11 : A11) (a12 : A12) (a13 : A13) (h : I a1 a2 a3 a4 a5 a6 a7 a8 a9 a10 a11 a12 a13) : ∃ n, W n a1 a2 a3 a4 a5 a6 a7 a8 a9 a10 a11 a12 a13 :=
  loop_m (σ := A1 × A2 × A3 × A4 × A5 × A6 × A7 × A8 × A9 × A10 × A11 × A12 × A13) (fun n s => W n s.1 s.2.1 s.2.2.1 s.2.2.2.1 s.2.2.2.2.1 s.2.2.2.2.2.1 s.2.2.2.2.2.2.1 s.2.2.2.2.2.2.2.1 s.2.2.2.2.2.2.2.2.1 s.2.2.2.2.2.2.2.2.2.1 s.2.2.2.2.2.2.2.2.2.2.1 s.2.2.2.2.2.2.2.2.2.2.2.1 s.2.2.2.2.2.2.2.2.2.2.2.2) (fun s => I s.1 s.2.1 s.2.2.1 s.2.2.2.1 s.2.2.2.2.1 s.2.2.2.2.2.1 s.2.2.2.2.2.2.1 s.2.2.2.2.2.2.2.1 s.2.2.2.2.2.2.2.2.1 s.2.2.2.2.2.2.2.2.2.1 s.2.2.2.2.2.2.2.2.2.2.1 s.2.2.2.2.2.2.2.2.2.2.2.1 s.2.2.2.2.2.2.2.2.2.2.2.2) (fun s => μ s.1 s.2.1 s.2.2.1 s.2.2.2.1 s.2.2.2.2.1 s.2.2.2.2.2.1 s.2.2.2.2.2.2.1 s.2.2.2.2.2.2.2.1 s.2.2.2.2.2.2.2.2.1 s.2.2.2.2.2.2.2.2.2.1 s.2.2.2.2.2.2.2.2.2.2.1 s.2.2.2.2.2.2.2.2.2.2.2.1 s.2.2.2.2.2.2.2.2.2.2.2.2) (fun n s hI hk => hs n s.1 s.2.1 s.2.2.1 s.2.2.2.1 s.2.2.2.2.1 s.2.2.2.2.2.1 s.2.2.2.2.2.2.1 s.2.2.2.2.2.2.2.1 s.2.2.2.2.2.2.2.2.1 s.2.2.2.2.2.2.2.2.2.1 s.2.2.2.2.2.2.2.2.2.2.1 s.2.2.2.2.2.2.2.2.2.2.2.1 s.2.2.2.2.2.2.2.2.2.2.2.2 hI (fun b1 b2 b3 b4 b5 b6 b7 b8 b9 b10 b11 b12 b13 h9 hm => hk (b1, b2, b3, b4, b5, b6, b7, b8, b9, b10, b11, b12, b13) h9 hm)) (a1, a2, a3, a4, a5, a6, a7, a8, a9, a10, a11, a12, a13) h
theorem lp14 {A1 A2 A3 A4 A5 A6 A7 A8 A9 A10 A11 A12 A13 A14 : Type} (W : Nat → A1 → A2 → A3 → A4 → A5 → A6 → A7 → A8 → A9 → A10 → A11 → A12 → A13 → A14 → Prop) (I : A1 → A2 → A3 → A4 → A5 → A6 → A7 → A8 → A9 → A10 → A11 → A12 → A13 → A14 → Prop) (μ : A1 → A2 → A3 → A4 → A5 → A6 → A7 → A8 → A9 → A10 → A11 → A12 → A13 → A14 → Nat) (hs : ∀ (n : Nat) (a1 : A1) (a2 : A2) (a3 : A3) (a4 : A4) (a5 : A5) (a6 : A6) (a7 : A7) (a8 : A8) (a9 : A9) (a10 : A10) (a11 : A11) (a12 : A12) (a13 : A13) (a14 : A14), I a1 a2 a3 a4 a5 a6 a7 a8 a9 a10 a11 a12 a13 a14 → (∀ (b1 : A1) (b2 : A2) (b3 : A3) (b4 : A4) (b5 : A5) (b6 : A6) (b7 : A7) (b8 : A8) (b9 : A9) (b10 : A10) (b11 : A11) (b12 : A12) (b13 : A13) (b14 : A14), I b1 b2 b3 b4 b5 b6 b7 b8 b9 b10 b11 b12 b13 b14 → μ b1 b2 b3 b4 b5 b6 b7 b8 b9 b10 b11 b12 b13 b14 < μ a1 a2 a3 a4 a5 a6 a7 a8 a9 a10 a11 a12 a13 a14 → W n b1 b2 b3 b4 b5 b6 b7 b8 b9 b10 b11 b12 b13 b14) → W (n + 1) a1 a2 a3 a4 a5 a6 a7 a8 a9 a10 a11 a12 a13 a14) (a1 : A1) (a2 : A2) (a3 : A3) (a4 : A4) (a5 : A5) (a6 : A6) (a7 : A7) (a8 : A8) (a9 : A9) (a10 : A10) (a11 : A11) (a12 : A12) (a13 : A13) (a14 : A14) (h : I a1 a2 a3 a4 a5 a6 a7 a8 a9 a10 a11 a12 a13 a14) : ∃ n, W n a1 a2 a3 a4 a5 a6 a7 a8 a9 a10 a11 a12 a13 a14 :=
  loop_m (σ := A1 × A2 × A3 × A4 × A5 × A6 × A7 × A8 × A9 × A10 × A11 × A12 × A13 × A14) (fun n s => W n s.1 s.2.1 s.2.2.1 s.2.2.2.1 s.2.2.2.2.1 s.2.2.2.2.2.1 s.2.2.2.2.2.2.1 s.2.2.2.2.2.2.2.1 s.2.2.2.2.2.2.2.2.1 s.2.2.2.2.2.2.2.2.2.1 s.2.2.2.2.2.2.2.2.2.2.1 s.2.2.2.2.2.2.2.2.2.2.2.1 s.2.2.2.2.2.2.2.2.2.2.2.2.1 s.2.2.2.2.2.2.2.2.2.2.2.2.2) (fun s => I s.1 s.2.1 s.2.2.1 s.2.2.2.1 s.2.2.2.2.1 s.2.2.2.2.2.1 s.2.2.2.2.2.2.1 s.2.2.2.2.2.2.2.1 s.2.2.2.2.2.2.2.2.1 s.2.2.2.2.2.2.2.2.2.1 s.2.2.2.2.2.2.2.2.2.2.1 s.2.2.2.2.2.2.2.2.2.2.2.1 s.2.2.2.2.2.2.2.2.2.2.2.2.1 s.2.2.2.2.2.2.2.2.2.2.2.2.2) (fun s => μ s.1 s.2.1 s.2.2.1 s.2.2.2.1 s.2.2.2.2.1 s.2.2.2.2.2.1 s.2.2.2.2.2.2.1 s.2.2.2.2.2.2.2.1 s.2.2.2.2.2.2.2.2.1 s.2.2.2.2.2.2.2.2.2.1 s.2.2.2.2.2.2.2.2.2.2.1 s.2.2.2.2.2.2.2.2.2.2.2.1 s.2.2.2.2.2.2.2.2.2.2.2.2.1 s.2.2.2.2.2.2.2.2.2.2.2.2.2) (fun n s hI hk => hs n s.1 s.2.1 s.2.2.1 s.2.2.2.1 s.2.2.2.2.1 s.2.2.2.2.2.1 s.2.2.2.2.2.2.1 s.2.2.2.2.2.2.2.1 s.2.2.2.2.2.2.2.2.1 s.2.2.2.2.2.2.2.2.2.1 s.2.2.2.2.2.2.2.2.2.2.1 s.2.2.2.2.2.2.2.2.2.2.2.1 s.2.2.2.2.2.2.2.2.2.2.2.2.1 s.2.2.2.2.2.2.2.2.2.2.2.2.2 hI (fun b1 b2 b3 b4 b5 b6 b7 b8 b9 b10 b11 b12 b13 b14 h9 hm => hk (b1, b2, b3, b4, b5, b6, b7, b8, b9, b10, b11, b12, b13, b14) h9 hm)) (a1, a2, a3, a4, a5, a6, a7, a8, a9, a10, a11, a12, a13, a14) h
theorem lp15 {A1 A2 A3 A4 A5 A6 A7 A8 A9 A10 A11 A12 A13 A14 A15 : Type} (W : Nat → A1 → A2 → A3 → A4 → A5 → A6 → A7 → A8 → A9 → A10 → A11 → A12 → A13 → A14 → A15 → Prop) (I : A1 → A2 → A3 → A4 → A5 → A6 → A7 → A8 → A9 → A10 → A11 → A12 → A13 → A14 → A15 → Prop) (μ : A1 → A2 → A3 → A4 → A5 → A6 → A7 → A8 → A9 → A10 → A11 → A12 → A13 → A14 → A15 → Nat) (hs : ∀ (n : Nat) (a1 : A1) (a2 : A2) (a3 : A3) (a4 : A4) (a5 : A5) (a6 : A6) (a7 : A7) (a8 : A8) (a9 : A9) (a10 : A10) (a11 : A11) (a12 : A12) (a13 : A13) (a14 : A14) (a15 : A15), I a1 a2 a3 a4 a5 a6 a7 a8 a9 a10 a11 a12 a13 a14 a15 → (∀ (b1 : A1) (b2 : A2) (b3 : A3) (b4 : A4) (b5 : A5) (b6 : A6) (b7 : A7) (b8 : A8) (b9 : A9) (b10 : A10) (b11 : A11) (b12 : A12) (b13 : A13) (b14 : A14) (b15 : A15), I b1 b2 b3 b4 b5 b6 b7 b8 b9 b10 b11 b12 b13 b14 b15 → μ b1 b2 b3 b4 b5 b6 b7 b8 b9 b10 b11 b12 b13 b14 b15 < μ a1 a2 a3 a4 a5 a6 a7 a8 a9 a10 a11 a12 a13 a14 a15 → W n b1 b2 b3 b4 b5 b6 b7 b8 b9 b10 b11 b12 b13 b14 b15) → W (n + 1) a1 a2 a3 a4 a5 a6 a7 a8 a9 a10 a11 a12 a13 a14 a15) (a1 : A1) (a2 : A2) (a3 : A3) (a4 : A4) (a5 : A5) (a6 : A6) (a7 : A7) (a8 : A8) (a9 : A9) (a10 : A10) (a11 : A11) (a12 : A12) (a13 : A13) (a14 : A14) (a15 : A15) (h : I a1 a2 a3 a4 a5 a6 a7 a8 a9 a10 a11 a12 a13 a14 a15) : ∃ n, W n a1 a2 a3 a4 a5 a6 a7 a8 a9 a10 a11 a12 a13 a14 a15 :=
  loop_m (σ := A1 × A2 × A3 × A4 × A5 × A6 × A7 × A8 × A9 × A10 × A11 × A12 × A13 × A14 × A15) (fun n s => W n s.1 s.2.1 s.2.2.1 s.2.2.2.1 s.2.2.2.2.1 s.2.2.2.2.2.1 s.2.2.2.2.2.2.1 s.2.2.2.2.2.2.2.1 s.2.2.2.2.2.2.2.2.1 s.2.2.2.2.2.2.2.2.2.1 s.2.2.2.2.2.2.2.2.2.2.1 s.2.2.2.2.2.2.2.2.2.2.2.1 s.2.2.2.2.2.2.2.2.2.2.2.2.1 s.2.2.2.2.2.2.2.2.2.2.2.2.2.1 s.2.2.2.2.2.2.2.2.2.2.2.2.2.2) (fun s => I s.1 s.2.1 s.2.2.1 s.2.2.2.1 s.2.2.2.2.1 s.2.2.2.2.2.1 s.2.2.2.2.2.2.1 s.2.2.2.2.2.2.2.1 s.2.2.2.2.2.2.2.2.1 s.2.2.2.2.2.2.2.2.2.1 s.2.2.2.2.2.2.2.2.2.2.1 s.2.2.2.2.2.2.2.2.2.2.2.1 s.2.2.2.2.2.2.2.2.2.2.2.2.1 s.2.2.2.2.2.2.2.2.2.2.2.2.2.1 s.2.2.2.2.2.2.2.2.2.2.2.2.2.2) (fun s => μ s.1 s.2.1 s.2.2.1 s.2.2.2.1 s.2.2.2.2.1 s.2.2.2.2.2.1 s.2.2.2.2.2.2.1 s.2.2.2.2.2.2.2.1 s.2.2.2.2.2.2.2.2.1 s.2.2.2.2.2.2.2.2.2.1 s.2.2.2.2.2.2.2.2.2.2.1 s.2.2.2.2.2.2.2.2.2.2.2.1 s.2.2.2.2.2.2.2.2.2.2.2.2.1 s.2.2.2.2.2.2.2.2.2.2.2.2.2.1 s.2.2.2.2.2.2.2.2.2.2.2.2.2.2) (fun n s hI hk => hs n s.1 s.2.1 s.2.2.1 s.2.2.2.1 s.2.2.2.2.1 s.2.2.2.2.2.1 s.2.2.2.2.2.2.1 s.2.2.2.2.2.2.2.1 s.2.2.2.2.2.2.2.2.1 s.2.2.2.2.2.2.2.2.2.1 s.2.2.2.2.2.2.2.2.2.2.1 s.2.2.2.2.2.2.2.2.2.2.2.1 s.2.2.2.2.2.2.2.2.2.2.2.2.1 s.2.2.2.2.2.2.2.2.2.2.2.2.2.1 s.2.2.2.2.2.2.2.2.2.2.2.2.2.2 hI (fun b1 b2 b3 b4 b5 b6 b7 b8 b9 b10 b11 b12 b13 b14 b15 h9 hm => hk (b1, b2, b3, b4, b5, b6, b7, b8, b9, b10, b11, b12, b13, b14, b15) h9 hm)) (a1, a2, a3, a4, a5, a6, a7, a8, a9, a10, a11, a12, a13, a14, a15) h
theorem lp16 {A1 A2 A3 A4 A5 A6 A7 A8 A9 A10 A11 A12 A13 A14 A15 A16 : Type} (W : Nat → A1 → A2 → A3 → A4 → A5 → A6 → A7 → A8 → A9 → A10 → A11 → A12 → A13 → A14 → A15 → A16 → Prop) (I : A1 → A2 → A3 → A4 → A5 → A6 → A7 → A8 → A9 → A10 → A11 → A12 → A13 → A14 → A15 → A16 → Prop) (μ : A1 → A2 → A3 → A4 → A5 → A6 → A7 → A8 → A9 → A10 → A11 → A12 → A13 → A14 → A15 → A16 → Nat) (hs : ∀ (n : Nat) (a1 : A1) (a2 : A2) (a3 : A3) (a4 : A4) (a5 : A5) (a6 : A6) (a7 : A7) (a8 : A8) (a9 : A9) (a10 : A10) (a11 : A11) (a12 : A12) (a13 : A13) (a14 : A14) (a15 : A15) (a16 : A16), I a1 a2 a3 a4 a5 a6 a7 a8 a9 a10 a11 a12 a13 a14 a15 a16 → (∀ (b1 : A1) (b2 : A2) (b3 : A3) (b4 : A4) (b5 : A5) (b6 : A6) (b7 : A7) (b8 : A8) (b9 : A9) (b10 : A10) (b11 : A11) (b12 : A12) (b13 : A13) (b14 : A14) (b15 : A15) (b16 : A16), I b1 b2 b3 b4 b5 b6 b7 b8 b9 b10 b11 b12 b13 b14 b15 b16 → μ b1 b2 b3 b4 b5 b6 b7 b8 b9 b10 b11 b12 b13 b14 b15 b16 < μ a1 a2 a3 a4 a5 a6 a7 a8 a9 a10 a11 a12 a13 a14 a15 a16 → W n b1 b2 b3 b4 b5 b6 b7 b8 b9 b10 b11 b12 b13 b14 b15 b16) → W (n + 1) a1 a2 a3 a4 a5 a6 a7 a8 a9 a10 a11 a12 a13 a14 a15 a16) (a1 : A1) (a2 : A2) (a3 : A3) (a4 : A4) (a5 : A5) (a6 : A6) (a7 : A7) (a8 : A8) (a9 : A9) (a10 : A10) (a11 : A11) (a12 : A12) (a13 : A13) (a14 : A14) (a15 : A15) (a16 : A16) (h : I a1 a2 a3 a4 a5 a6 a7 a8 a9 a10 a11 a12 a13 a14 a15 a16) : ∃ n, W n a1 a2 a3 a4 a5 a6 a7 a8 a9 a10 a11 a12 a13 a14 a15 a16 :=
  loop_m (σ := A1 × A2 × A3 × A4 × A5 × A6 × A7 × A8 × A9 × A10 × A11 × A12 × A13 × A14 × A15 × A16) (fun n s => W n s.1 s.2.1 s.2.2.1 s.2.2.2.1 s.2.2.2.2.1 s.2.2.2.2.2.1 s.2.2.2.2.2.2.1 s.2.2.2.2.2.2.2.1 s.2.2.2.2.2.2.2.2.1 s.2.2.2.2.2.2.2.2.2.1 s.2.2.2.2.2.2.2.2.2.2.1 s.2.2.2.2.2.2.2.2.2.2.2.1 s.2.2.2.2.2.2.2.2.2.2.2.2.1 s.2.2.2.2.2.2.2.2.2.2.2.2.2.1 s.2.2.2.2.2.2.2.2.2.2.2.2.2.2.1 s.2.2.2.2.2.2.2.2.2.2.2.2.2.2.2) (fun s => I s.1 s.2.1 s.2.2.1 s.2.2.2.1 s.2.2.2.2.1 s.2.2.2.2.2.1 s.2.2.2.2.2.2.1 s.2.2.2.2.2.2.2.1 s.2.2.2.2.2.2.2.2.1 s.2.2.2.2.2.2.2.2.2.1 s.2.2.2.2.2.2.2.2.2.2.1 s.2.2.2.2.2.2.2.2.2.2.2.1 s.2.2.2.2.2.2.2.2.2.2.2.2.1 s.2.2.2.2.2.2.2.2.2.2.2.2.2.1 s.2.2.2.2.2.2.2.2.2.2.2.2.2.2.1 s.2.2.2.2.2.2.2.2.2.2.2.2.2.2.2) (fun s => μ s.1 s.2.1 s.2.2.1 s.2.2.2.1 s.2.2.2.2.1 s.2.2.2.2.2.1 s.2.2.2.2.2.2.1 s.2.2.2.2.2.2.2.1 s.2.2.2.2.2.2.2.2.1 s.2.2.2.2.2.2.2.2.2.1 s.2.2.2.2.2.2.2.2.2.2.1 s.2.2.2.2.2.2.2.2.2.2.2.1 s.2.2.2.2.2.2.2.2.2.2.2.2.1 s.2.2.2.2.2.2.2.2.2.2.2.2.2.1 s.2.2.2.2.2.2.2.2.2.2.2.2.2.2.1 s.2.2.2.2.2.2.2.2.2.2.2.2.2.2.2) (fun n s hI hk => hs n s.1 s.2.1 s.2.2.1 s.2.2.2.1 s.2.2.2.2.1 s.2.2.2.2.2.1 s.2.2.2.2.2.2.1 s.2.2.2.2.2.2.2.1 s.2.2.2.2.2.2.2.2.1 s.2.2.2.2.2.2.2.2.2.1 s.2.2.2.2.2.2.2.2.2.2.1 s.2.2.2.2.2.2.2.2.2.2.2.1 s.2.2.2.2.2.2.2.2.2.2.2.2.1 s.2.2.2.2.2.2.2.2.2.2.2.2.2.1 s.2.2.2.2.2.2.2.2.2.2.2.2.2.2.1 s.2.2.2.2.2.2.2.2.2.2.2.2.2.2.2 hI (fun b1 b2 b3 b4 b5 b6 b7 b8 b9 b10 b11 b12 b13 b14 b15 b16 h9 hm => hk (b1, b2, b3, b4, b5, b6, b7, b8, b9, b10, b11, b12, b13, b14, b15, b16) h9 hm)) (a1, a2, a3, a4, a5, a6, a7, a8, a9, a10, a11, a12, a13, a14, a15, a16) h
theorem pk_least (P : Nat → Prop) (h : ∃ k, P k) : ∃ k, P k ∧ ∀ j, j < k → ¬ P j := by
  obtain ⟨k, hk⟩ := h
  induction k using Nat.strongRecOn with
  | ind k ih =>
    by_cases e : ∃ j, j < k ∧ P j
    · obtain ⟨j, hj, pj⟩ := e
      exact ih j hj pj
    · exact ⟨k, hk, fun j hj pj => e ⟨j, hj, pj⟩⟩
theorem rp1 {ρ A1 : Type} (W : Nat → (ρ → Prop) → A1 → Prop) (ok : A1 → Prop) (μ : A1 → Nat) (val : A1 → ρ)
    (hs : ∀ (d : Nat) (post : ρ → Prop) (a1 : A1), ok a1 → post (val a1) → (∀ (post' : ρ → Prop) (b1 : A1), ok b1 → μ b1 < μ a1 → post' (val b1) → W d post' b1) → W (d + 1) post a1) :
    ∀ (d : Nat) (post : ρ → Prop) (a1 : A1), ok a1 → μ a1 < d → post (val a1) → W d post a1 := by
  intro d
  induction d with
  | zero => intro post a1 _ h; omega
  | succ d ih =>
    intro post a1 ho hm hp
    exact hs d post a1 ho hp (fun post' b1 ho' hm' hp' => ih post' b1 ho' (by omega) hp')
theorem rp2 {ρ A1 A2 : Type} (W : Nat → (ρ → Prop) → A1 → A2 → Prop) (ok : A1 → A2 → Prop) (μ : A1 → A2 → Nat) (val : A1 → A2 → ρ)
    (hs : ∀ (d : Nat) (post : ρ → Prop) (a1 : A1) (a2 : A2), ok a1 a2 → post (val a1 a2) → (∀ (post' : ρ → Prop) (b1 : A1) (b2 : A2), ok b1 b2 → μ b1 b2 < μ a1 a2 → post' (val b1 b2) → W d post' b1 b2) → W (d + 1) post a1 a2) :
    ∀ (d : Nat) (post : ρ → Prop) (a1 : A1) (a2 : A2), ok a1 a2 → μ a1 a2 < d → post (val a1 a2) → W d post a1 a2 := by
  intro d
  induction d with
  | zero => intro post a1 a2 _ h; omega
  | succ d ih =>
    intro post a1 a2 ho hm hp
    exact hs d post a1 a2 ho hp (fun post' b1 b2 ho' hm' hp' => ih post' b1 b2 ho' (by omega) hp')
theorem rp3 {ρ A1 A2 A3 : Type} (W : Nat → (ρ → Prop) → A1 → A2 → A3 → Prop) (ok : A1 → A2 → A3 → Prop) (μ : A1 → A2 → A3 → Nat) (val : A1 → A2 → A3 → ρ)
    (hs : ∀ (d : Nat) (post : ρ → Prop) (a1 : A1) (a2 : A2) (a3 : A3), ok a1 a2 a3 → post (val a1 a2 a3) → (∀ (post' : ρ → Prop) (b1 : A1) (b2 : A2) (b3 : A3), ok b1 b2 b3 → μ b1 b2 b3 < μ a1 a2 a3 → post' (val b1 b2 b3) → W d post' b1 b2 b3) → W (d + 1) post a1 a2 a3) :
    ∀ (d : Nat) (post : ρ → Prop) (a1 : A1) (a2 : A2) (a3 : A3), ok a1 a2 a3 → μ a1 a2 a3 < d → post (val a1 a2 a3) → W d post a1 a2 a3 := by
  intro d
  induction d with
  | zero => intro post a1 a2 a3 _ h; omega
  | succ d ih =>
    intro post a1 a2 a3 ho hm hp
    exact hs d post a1 a2 a3 ho hp (fun post' b1 b2 b3 ho' hm' hp' => ih post' b1 b2 b3 ho' (by omega) hp')
theorem rp4 {ρ A1 A2 A3 A4 : Type} (W : Nat → (ρ → Prop) → A1 → A2 → A3 → A4 → Prop) (ok : A1 → A2 → A3 → A4 → Prop) (μ : A1 → A2 → A3 → A4 → Nat) (val : A1 → A2 → A3 → A4 → ρ)
    (hs : ∀ (d : Nat) (post : ρ → Prop) (a1 : A1) (a2 : A2) (a3 : A3) (a4 : A4), ok a1 a2 a3 a4 → post (val a1 a2 a3 a4) → (∀ (post' : ρ → Prop) (b1 : A1) (b2 : A2) (b3 : A3) (b4 : A4), ok b1 b2 b3 b4 → μ b1 b2 b3 b4 < μ a1 a2 a3 a4 → post' (val b1 b2 b3 b4) → W d post' b1 b2 b3 b4) → W (d + 1) post a1 a2 a3 a4) :
    ∀ (d : Nat) (post : ρ → Prop) (a1 : A1) (a2 : A2) (a3 : A3) (a4 : A4), ok a1 a2 a3 a4 → μ a1 a2 a3 a4 < d → post (val a1 a2 a3 a4) → W d post a1 a2 a3 a4 := by
  intro d
  induction d with
  | zero => intro post a1 a2 a3 a4 _ h; omega
  | succ d ih =>
    intro post a1 a2 a3 a4 ho hm hp
    exact hs d post a1 a2 a3 a4 ho hp (fun post' b1 b2 b3 b4 ho' hm' hp' => ih post' b1 b2 b3 b4 ho' (by omega) hp')
theorem rp5 {ρ A1 A2 A3 A4 A5 : Type} (W : Nat → (ρ → Prop) → A1 → A2 → A3 → A4 → A5 → Prop) (ok : A1 → A2 → A3 → A4 → A5 → Prop) (μ : A1 → A2 → A3 → A4 → A5 → Nat) (val : A1 → A2 → A3 → A4 → A5 → ρ)
    (hs : ∀ (d : Nat) (post : ρ → Prop) (a1 : A1) (a2 : A2) (a3 : A3) (a4 : A4) (a5 : A5), ok a1 a2 a3 a4 a5 → post (val a1 a2 a3 a4 a5) → (∀ (post' : ρ → Prop) (b1 : A1) (b2 : A2) (b3 : A3) (b4 : A4) (b5 : A5), ok b1 b2 b3 b4 b5 → μ b1 b2 b3 b4 b5 < μ a1 a2 a3 a4 a5 → post' (val b1 b2 b3 b4 b5) → W d post' b1 b2 b3 b4 b5) → W (d + 1) post a1 a2 a3 a4 a5) :
    ∀ (d : Nat) (post : ρ → Prop) (a1 : A1) (a2 : A2) (a3 : A3) (a4 : A4) (a5 : A5), ok a1 a2 a3 a4 a5 → μ a1 a2 a3 a4 a5 < d → post (val a1 a2 a3 a4 a5) → W d post a1 a2 a3 a4 a5 := by
  intro d
  induction d with
  | zero => intro post a1 a2 a3 a4 a5 _ h; omega
  | succ d ih =>
    intro post a1 a2 a3 a4 a5 ho hm hp
    exact hs d post a1 a2 a3 a4 a5 ho hp (fun post' b1 b2 b3 b4 b5 ho' hm' hp' => ih post' b1 b2 b3 b4 b5 ho' (by omega) hp')
theorem rp6 {ρ A1 A2 A3 A4 A5 A6 : Type} (W : Nat → (ρ → Prop) → A1 → A2 → A3 → A4 → A5 → A6 → Prop) (ok : A1 → A2 → A3 → A4 → A5 → A6 → Prop) (μ : A1 → A2 → A3 → A4 → A5 → A6 → Nat) (val : A1 → A2 → A3 → A4 → A5 → A6 → ρ)
    (hs : ∀ (d : Nat) (post : ρ → Prop) (a1 : A1) (a2 : A2) (a3 : A3) (a4 : A4) (a5 : A5) (a6 : A6), ok a1 a2 a3 a4 a5 a6 → post (val a1 a2 a3 a4 a5 a6) → (∀ (post' : ρ → Prop) (b1 : A1) (b2 : A2) (b3 : A3) (b4 : A4) (b5 : A5) (b6 : A6), ok b1 b2 b3 b4 b5 b6 → μ b1 b2 b3 b4 b5 b6 < μ a1 a2 a3 a4 a5 a6 → post' (val b1 b2 b3 b4 b5 b6) → W d post' b1 b2 b3 b4 b5 b6) → W (d + 1) post a1 a2 a3 a4 a5 a6) :
    ∀ (d : Nat) (post : ρ → Prop) (a1 : A1) (a2 : A2) (a3 : A3) (a4 : A4) (a5 : A5) (a6 : A6), ok a1 a2 a3 a4 a5 a6 → μ a1 a2 a3 a4 a5 a6 < d → post (val a1 a2 a3 a4 a5 a6) → W d post a1 a2 a3 a4 a5 a6 := by
  intro d
  induction d with
  | zero => intro post a1 a2 a3 a4 a5 a6 _ h; omega
  | succ d ih =>
    intro post a1 a2 a3 a4 a5 a6 ho hm hp
    exact hs d post a1 a2 a3 a4 a5 a6 ho hp (fun post' b1 b2 b3 b4 b5 b6 ho' hm' hp' => ih post' b1 b2 b3 b4 b5 b6 ho' (by omega) hp')
theorem rec_p {σ ρ : Type} (W : Nat → (ρ → Prop) → σ → Prop) (ok : σ → Prop) (μ : σ → Nat) (val : σ → ρ)
    (hs : ∀ d s post, ok s → post (val s) → (∀ s' post', ok s' → μ s' < μ s → post' (val s') → W d post' s') → W (d + 1) post s) :
    ∀ d s post, ok s → μ s < d → post (val s) → W d post s := by
  intro d
  induction d with
  | zero => intro s post _ h; omega
  | succ d ih =>
    intro s post ho hm hp
    exact hs d s post ho hp (fun s' post' ho' hm' hp' => ih s' post' ho' (by omega) hp')
theorem rec_q {σ ρ : Type} (W : Nat → (ρ → Prop) → σ → Prop) (ok : σ → Prop) (μ : σ → Nat) (Q : σ → ρ → Prop)
    (hs : ∀ d s post, ok s → (∀ r, Q s r → post r) → (∀ s' post', ok s' → μ s' < μ s → (∀ r, Q s' r → post' r) → W d post' s') → W (d + 1) post s) :
    ∀ d s post, ok s → μ s < d → (∀ r, Q s r → post r) → W d post s := by
  intro d
  induction d with
  | zero => intro s post _ h; omega
  | succ d ih =>
    intro s post ho hm hp
    exact hs d s post ho hp (fun s' post' ho' hm' hp' => ih s' post' ho' (by omega) hp')
def bx_sum (f : Nat → Int32) : Nat → Int32
  | 0 => 0
  | n + 1 => bx_sum f n + f n
theorem ek_u {A : Prop} {B : Nat → Prop} {k N : Nat} (hk : k < N) (h : B k) : (some k = none → A) ∧ (∀ y : Nat, some k = some y → (y < N ∧ B y)) :=
  ⟨fun z => absurd z (Option.some_ne_none k), fun _ e => (by cases e; exact ⟨hk, h⟩)⟩
theorem ek_nu {A : Prop} {B : Nat → Prop} (h : A) : ((none : Option Nat) = none → A) ∧ (∀ y : Nat, (none : Option Nat) = some y → B y) :=
  ⟨fun _ => h, fun _ e => (by cases e)⟩
theorem ek_if {c d A B : Prop} (e : c ↔ d) (f : d → A) (g : ¬ d → B) : (c → A) ∧ (¬ c → B) :=
  ⟨fun z => f (e.mp z), fun z => g (fun y => z (e.mpr y))⟩
theorem ek_v {α : Sort _} {P : α → Prop} {a b : α} (e : a = b) (h : P b) : P a := e ▸ h
theorem co_some {x : Option Nat} {A : Prop} {B : Nat → Prop} (i : Nat) (h : B i) (hx : x = some i := by rfl) : (x = none → A) ∧ (∀ y : Nat, x = some y → B y) := by
  subst hx
  exact ⟨fun e => (nomatch e), fun y e => Option.some.inj e ▸ h⟩
theorem co_none {x : Option Nat} {A : Prop} {B : Nat → Prop} (h : A) (hx : x = none := by rfl) : (x = none → A) ∧ (∀ y : Nat, x = some y → B y) := by
  subst hx
  exact ⟨fun _ => h, fun y e => (nomatch e)⟩
theorem co_any {x : Option Nat} {A : Prop} {B : Nat → Prop} (hn : x = none → A) (hs : ∀ i : Nat, x = some i → B i) : (x = none → A) ∧ (∀ y : Nat, x = some y → B y) := ⟨hn, hs⟩
theorem co_2 {P : Nat → Prop} (h0 : P 0) (h1 : P 1) {i : Nat} (hi : i < 2) : P i :=
  match i, hi with
  | 0, _ => h0
  | 1, _ => h1
theorem co_3 {P : Nat → Prop} (h0 : P 0) (h1 : P 1) (h2 : P 2) {i : Nat} (hi : i < 3) : P i :=
  match i, hi with
  | 0, _ => h0
  | 1, _ => h1
  | 2, _ => h2
theorem co_4 {P : Nat → Prop} (h0 : P 0) (h1 : P 1) (h2 : P 2) (h3 : P 3) {i : Nat} (hi : i < 4) : P i :=
  match i, hi with
  | 0, _ => h0
  | 1, _ => h1
  | 2, _ => h2
  | 3, _ => h3
theorem co_dec {N : Nat} {P : Nat → Prop} [DecidablePred P] (h : (List.range N).all (fun i => decide (P i)) = true) {i : Nat} (hi : i < N) : P i := by
  have := List.all_eq_true.mp h i (List.mem_range.mpr hi)
  exact of_decide_eq_true this
theorem co_tab {α : Type} {l : List α} {d : α} {P : α → Prop} (h : ∀ a, a ∈ l → P a) {i : Nat} (hi : i < l.length) : P (l.getD i d) := by
  rw [List.getD_eq_getElem?_getD, List.getElem?_eq_getElem hi]
  exact h _ (List.getElem_mem hi)
theorem pk_mu {x : Int32} {L : Nat} (h0 : ¬ x < 0) (h : ¬ nI L ≤ x) (hL : L < 2 ^ 31) : ∃ j : Nat, j < L ∧ x = nI j ∧ x + 1 = nI (j + 1) ∧ x.toNatClampNeg = j ∧ L - (x + 1).toNatClampNeg < L - x.toNatClampNeg := by
  obtain ⟨j, hj, rfl⟩ := nI_of h0
  have hl : j < L := Nat.not_le.mp fun q => h (nI_le q hj)
  refine ⟨j, hl, rfl, nI_1 j, nI_clamp hj, ?_⟩
  rw [nI_1, nI_clamp (by omega), nI_clamp hj]
  omega
theorem op_s {α : Type} {r : Option α} {A : Prop} {B : α → Prop} {y : α} (h : r = some y) (b : B y) : (r = none → A) ∧ ∀ z, r = some z → B z :=
  ⟨fun e => (by rw [h] at e; cases e), fun z e => (by rw [h] at e; cases e; exact b)⟩
def l_holds {α : Type} (a : Nat → Option Nat) (LP : List Nat) (p : Nat → α) (c : Nat) (b : Nat → α) : Prop :=
  ∀ j, j < c → ∃ y, a j = some y ∧ y ∈ LP ∧ p y = b j
theorem l_holds_0 {α : Type} {a : Nat → Option Nat} {LP : List Nat} {p b : Nat → α} : l_holds a LP p 0 b := fun j h => absurd h (Nat.not_lt_zero j)
theorem l_in_new (LP : List Nat) (q : Nat) : q ∈ LP ++ [q] := List.mem_append.mpr (Or.inr (List.mem_singleton.mpr rfl))
def l_sum (b : Nat → Int32) : Nat → Int32
  | 0 => 0
  | k + 1 => l_sum b k + b k
theorem sb_shr0 (x : Int32) : x >>> ((0 : Int32) &&& 31) = x := by
  rw [show ((0 : Int32) &&& 31) = 0 by decide]
  simp
theorem sb_shl0 (x : Int32) : x <<< ((0 : Int32) &&& 31) = x := by
  rw [show ((0 : Int32) &&& 31) = 0 by decide]
  simp
theorem sb_cl0 : (0 : Int32).toNatClampNeg = 0 := by decide
theorem sb_m1 {p : Nat} (h : 0 < p) : nI p + (-1) = nI (p - 1) := by
  obtain ⟨q, rfl⟩ : ∃ q, p = q + 1 := ⟨p - 1, by omega⟩
  exact pk_m1 q
def sb_b (c : Nat) : Int32 := (nI c).toInt8.toInt32
theorem sb_byte : ∀ c, c < 256 → sb_b c &&& 255 = nI c ∧ ((nI c).toUInt32 % 65536).toInt32 = nI c ∧ nI c ≤ 255 := by decide +kernel
def sb_Fit (a : Nat → Int32) : Prop := ∀ j, fits .byte (.int (a j)) = true
def sb_Lat (t : Nat → Nat) (n : Nat) (a : Nat → Int32) : Prop := ∀ j, j < n → t j < 256 ∧ a j = sb_b (t j)
theorem sb_fitB (c : Nat) : fits .byte (.int (sb_b c)) = true := pk_fb _
theorem sb_fit0 : sb_Fit (fun _ => 0) := fun _ => by
  show fits .byte (.int 0) = true
  decide
theorem sb_fitU {a : Nat → Int32} {k : Nat} {x : Int32} (h : sb_Fit a) (hx : fits .byte (.int x) = true) : sb_Fit (upd a k x) := by
  intro j
  by_cases e : j = k
  · subst e
    rw [pk_us]
    exact hx
  · rw [pk_un e]
    exact h j
def sb_cat (t : Nat → Nat) (n : Nat) (s : Nat → Nat) : Nat → Nat := fun j => if j < n then t j else s (j - n)
theorem sb_cat_lo {t s : Nat → Nat} {n j : Nat} (h : j < n) : sb_cat t n s j = t j := if_pos h
theorem sb_cat_hi {t s : Nat → Nat} {n j : Nat} : sb_cat t n s (n + j) = s j := by
  show (if n + j < n then t (n + j) else s (n + j - n)) = s j
  rw [if_neg (by omega), Nat.add_sub_cancel_left]
theorem sb_latPut {t s : Nat → Nat} {n w : Nat} {a a' : Nat → Int32} (h : sb_Lat t n a) (hk : ∀ j, j < n → a' j = a j) (hs : ∀ i, i < w → s i < 256 ∧ a' (n + i) = sb_b (s i)) : sb_Lat (sb_cat t n s) (n + w) a' := by
  intro j hj
  by_cases e : j < n
  · rw [sb_cat_lo e, hk j e]
    exact h j e
  · obtain ⟨i, rfl⟩ : ∃ i, j = n + i := ⟨j - n, by omega⟩
    rw [sb_cat_hi]
    exact hs i (by omega)
theorem sb_latKeep {t : Nat → Nat} {n : Nat} {a a' : Nat → Int32} (h : sb_Lat t n a) (hk : ∀ j, j < n → a' j = a j) : sb_Lat t n a' := fun j hj => by
  rw [hk j hj]
  exact h j hj
def sb_cap (q m : Nat) : Nat := if q ≤ m then m else if 2 * m + 2 < q then q else 2 * m + 2
def sb_Room (q m mc ms : Nat) : Prop := q ≤ m ∨ (1 ≤ mc ∧ sb_cap q m ≤ ms ∧ sb_cap q m ≤ 65536)
theorem sb_cap_ge (q m : Nat) : q ≤ sb_cap q m := by
  unfold sb_cap
  split
  · omega
  · split <;> omega
theorem sb_cap_gem (q m : Nat) : m ≤ sb_cap q m := by
  unfold sb_cap
  split
  · omega
  · split <;> omega
theorem sb_cap_le {q m mc ms : Nat} (hm : m ≤ 65536) (hr : sb_Room q m mc ms) : sb_cap q m ≤ 65536 := by
  rcases hr with h | h
  · rw [sb_cap, if_pos h]
    exact hm
  · exact h.2.2
theorem sb_at {P : Int32 → Prop} {x y : Int32} (e : x = y) (h : P y) : P x := e ▸ h
def sb_dg (w : Nat) : Nat := if w < 10 then 1 else if w < 100 then 2 else if w < 1000 then 3 else if w < 10000 then 4 else if w < 100000 then 5 else if w < 1000000 then 6 else if w < 10000000 then 7 else if w < 100000000 then 8 else if w < 1000000000 then 9 else 10
def sb_dec (v : Nat) : Nat → Nat := fun i => 48 + v / 10 ^ (sb_dg v - 1 - i) % 10
theorem sb_dg_in (w : Nat) : 1 ≤ sb_dg w ∧ sb_dg w ≤ 10 := by
  unfold sb_dg
  constructor <;> (repeat' split) <;> omega
theorem sb_dg100 {w : Nat} (h : 100 ≤ w) (hw : w < 2 ^ 31) : sb_dg w = sb_dg (w / 100) + 2 := by
  rw [sb_dg, sb_dg, if_neg (show ¬ w < 10 by omega), if_neg (show ¬ w < 100 by omega)]
  by_cases h3 : w < 1000
  · rw [if_pos h3, if_pos (show w / 100 < 10 by omega)]
  rw [if_neg h3, if_neg (show ¬ w / 100 < 10 by omega)]
  by_cases h4 : w < 10000
  · rw [if_pos h4, if_pos (show w / 100 < 100 by omega)]
  rw [if_neg h4, if_neg (show ¬ w / 100 < 100 by omega)]
  by_cases h5 : w < 100000
  · rw [if_pos h5, if_pos (show w / 100 < 1000 by omega)]
  rw [if_neg h5, if_neg (show ¬ w / 100 < 1000 by omega)]
  by_cases h6 : w < 1000000
  · rw [if_pos h6, if_pos (show w / 100 < 10000 by omega)]
  rw [if_neg h6, if_neg (show ¬ w / 100 < 10000 by omega)]
  by_cases h7 : w < 10000000
  · rw [if_pos h7, if_pos (show w / 100 < 100000 by omega)]
  rw [if_neg h7, if_neg (show ¬ w / 100 < 100000 by omega)]
  by_cases h8 : w < 100000000
  · rw [if_pos h8, if_pos (show w / 100 < 1000000 by omega)]
  rw [if_neg h8, if_neg (show ¬ w / 100 < 1000000 by omega)]
  by_cases h9 : w < 1000000000
  · rw [if_pos h9, if_pos (show w / 100 < 10000000 by omega)]
  rw [if_neg h9, if_neg (show ¬ w / 100 < 10000000 by omega)]
  rw [if_pos (show w / 100 < 100000000 by omega)]
theorem sb_negT {w : Nat} (h : w < 2 ^ 31) : (-nI w).toInt = -(w : Int) := by
  rw [Int32.toInt_neg, nI_toInt h]
  exact Int.bmod_eq_of_le (by omega) (by omega)
theorem sb_nle {a b : Nat} (ha : a < 2 ^ 31) (hb : b < 2 ^ 31) : -nI a ≤ -nI b ↔ b ≤ a := by
  rw [Int32.le_iff_toInt_le, sb_negT ha, sb_negT hb]
  omega
theorem sb_nlt {a b : Nat} (ha : a < 2 ^ 31) (hb : b < 2 ^ 31) : -nI a < -nI b ↔ b < a := by
  rw [Int32.lt_iff_toInt_lt, sb_negT ha, sb_negT hb]
  omega
theorem sb_cmp {A B : Prop} {x : Int32} (v c : Nat) (f : c ≤ v → A) (g : v < c → B) (hv : v < 2 ^ 31) (hx : x = -nI c := by rfl) (hc : c < 2 ^ 31 := by omega) : (-nI v ≤ x → A) ∧ (¬ -nI v ≤ x → B) := by
  subst hx
  rw [sb_nle hv hc]
  exact ⟨f, fun z => g (by omega)⟩
theorem sb_ndiv {w : Nat} (hw : w < 2 ^ 31) : (-nI w) / 100 = -nI (w / 100) := by
  apply Int32.toInt_inj.mp
  have h100 : (100 : Int32).toInt = 100 := by decide
  rw [Int32.toInt_div, sb_negT hw, h100, sb_negT (by omega), Int.neg_tdiv, Int.tdiv_eq_ediv_of_nonneg (by omega), Int.bmod_eq_of_le (by omega) (by omega)]
  omega
theorem sb_nrem {w : Nat} (hw : w < 2 ^ 31) : (-nI (w / 100)) * 100 - (-nI w) = nI (w % 100) := by
  have h := pk_rem (a := w) (d := 100) hw (by decide) (by decide)
  rw [pk_div hw (by decide) (by decide)] at h
  rw [← h]
  show (-nI (w / 100)) * nI 100 - (-nI w) = nI w - nI (w / 100) * nI 100
  rw [Int32.neg_mul, Int32.sub_neg, Int32.add_comm, ← Int32.sub_eq_add_neg]
end
section
/-! words: fields and signed reads -/
def ci_sg (w k : Int32) : Int32 := (w <<< ((25 - k) &&& 31)) >>> ((32 - k) &&& 31)
def ci_fd (v k : Int32) : Int32 := (v &&& (((1 : Int32) <<< (k &&& 31)) - 1)) <<< ((7 : Int32) &&& 31)
def ci_K (k : Nat) : Prop := k = 3 ∨ k = 4 ∨ k = 5 ∨ k = 6 ∨ k = 7 ∨ k = 8 ∨ k = 10
theorem ci_or {x y k : Nat} (hx : x < 2 ^ k) : nI x ||| nI (y * 2 ^ k) = nI (x + y * 2 ^ k) := by
  have e : x + y * 2 ^ k = x ||| y * 2 ^ k := by
    rw [Nat.or_comm, Nat.mul_comm, Nat.add_comm, Nat.two_pow_add_eq_or_of_lt hx]
  rw [e]
  apply Int32.toBitVec_inj.1
  show BitVec.ofNat 32 x ||| BitVec.ofNat 32 (y * 2 ^ k) = BitVec.ofNat 32 (x ||| y * 2 ^ k)
  apply BitVec.eq_of_getLsbD_eq
  intro i hi
  simp only [BitVec.getLsbD_or, BitVec.getLsbD_ofNat, Nat.testBit_or, hi, decide_true, Bool.true_and]
theorem ci_tc (x : Int32) : (2 * x.toBitVec.toNat < 4294967296 ∧ x.toInt = (x.toBitVec.toNat : Int)) ∨ (4294967296 ≤ 2 * x.toBitVec.toNat ∧ x.toInt = (x.toBitVec.toNat : Int) - 4294967296) := by
  have e : x.toInt = if 2 * x.toBitVec.toNat < 2 ^ 32 then (x.toBitVec.toNat : Int) else (x.toBitVec.toNat : Int) - ((2 ^ 32 : Nat) : Int) := BitVec.toInt_eq_toNat_cond x.toBitVec
  by_cases h : 2 * x.toBitVec.toNat < 2 ^ 32
  · rw [if_pos h] at e
    exact Or.inl ⟨h, e⟩
  · rw [if_neg h] at e
    exact Or.inr ⟨by omega, e⟩
theorem ci_wo {o a f : Nat} (ho : o < 16) (ha : a < 8) : (nI o ||| (nI a <<< ((4 : Int32) &&& 31))) ||| nI (f * 128) = nI (o + a * 16 + f * 128) := by
  rw [pk_shlN (n := a) ((4 : Int32) &&& 31) 4 (by decide) (by omega)]
  have e1 : nI o ||| nI (a * 2 ^ 4) = nI (o + a * 2 ^ 4) := ci_or (by omega)
  rw [e1]
  have e2 : nI (o + a * 2 ^ 4) ||| nI (f * 2 ^ 7) = nI (o + a * 2 ^ 4 + f * 2 ^ 7) := ci_or (by omega)
  exact e2
theorem ci_lo {o a f : Nat} (ho : o < 16) (hf : f < 1024) (ha : a < 8) : nI (o + a * 16 + f * 128) &&& 15 = nI o := by
  rw [pk_andN (by omega) 4 (by decide)]
  exact congrArg nI (by omega)
theorem ci_mid {o a f : Nat} (ho : o < 16) (hf : f < 1024) (ha : a < 8) : (nI (o + a * 16 + f * 128) >>> ((4 : Int32) &&& 31)) &&& 7 = nI a := by
  rw [pk_shrN (by omega) _ 4 (by decide), pk_andN (by omega) 3 (by decide)]
  exact congrArg nI (by omega)
theorem ci_hi {o a f : Nat} (ho : o < 16) (hf : f < 8) (ha : a < 8) : (nI (o + a * 16 + f * 128) >>> ((7 : Int32) &&& 31)) &&& 7 = nI f := by
  rw [pk_shrN (by omega) _ 7 (by decide), pk_andN (by omega) 3 (by decide)]
  exact congrArg nI (by omega)
theorem ci_msk : ∀ k : Nat, k < 11 → (((1 : Int32) <<< (nI k &&& 31)) - 1).toBitVec.toNat = 2 ^ k - 1 := by decide
theorem ci_plt : ∀ k : Nat, k < 11 → 2 ^ k ≤ 1024 := by decide
theorem ci_fdN (v : Int32) {k : Nat} (hk : k < 11) : ci_fd v (nI k) = nI (v.toBitVec.toNat % 2 ^ k * 128) := by
  have h1 : v.toBitVec.toNat % 2 ^ k < 2 ^ k := Nat.mod_lt _ (Nat.two_pow_pos k)
  have h2 := ci_plt k hk
  unfold ci_fd
  rw [pk_and v k (ci_msk k hk)]
  exact pk_shlN _ 7 (by decide) (by omega)
theorem ci_sg_3 {r : Nat} {v : Int32} (hr : r < 128) (h1 : -4 ≤ v.toInt) (h2 : v.toInt < 4) : ci_sg (nI (r + v.toBitVec.toNat % 8 * 128)) (nI 3) = v := by
  apply Int32.toInt_inj.mp
  unfold ci_sg
  rw [pk_shr _ _ 29 (by decide), Int.shiftRight_eq_div_pow]
  have e : (nI (r + v.toBitVec.toNat % 8 * 128) <<< ((25 - nI 3) &&& 31)).toBitVec.toNat = (r + v.toBitVec.toNat % 8 * 128) * 2 ^ 22 % 2 ^ 32 := by
    rw [pk_shl _ _ 22 (by decide), pk_tn (by omega)]
  have t1 := ci_tc (nI (r + v.toBitVec.toNat % 8 * 128) <<< ((25 - nI 3) &&& 31))
  have t2 := ci_tc v
  have t3 := v.toBitVec.isLt
  rw [e] at t1
  generalize (nI (r + v.toBitVec.toNat % 8 * 128) <<< ((25 - nI 3) &&& 31)).toInt = y at t1 ⊢
  generalize v.toInt = x at h1 h2 t2 ⊢
  generalize v.toBitVec.toNat = z at t1 t2 t3
  rcases t1 with t1 | t1 <;> rcases t2 with t2 | t2 <;> omega
theorem ci_sg_4 {r : Nat} {v : Int32} (hr : r < 128) (h1 : -8 ≤ v.toInt) (h2 : v.toInt < 8) : ci_sg (nI (r + v.toBitVec.toNat % 16 * 128)) (nI 4) = v := by
  apply Int32.toInt_inj.mp
  unfold ci_sg
  rw [pk_shr _ _ 28 (by decide), Int.shiftRight_eq_div_pow]
  have e : (nI (r + v.toBitVec.toNat % 16 * 128) <<< ((25 - nI 4) &&& 31)).toBitVec.toNat = (r + v.toBitVec.toNat % 16 * 128) * 2 ^ 21 % 2 ^ 32 := by
    rw [pk_shl _ _ 21 (by decide), pk_tn (by omega)]
  have t1 := ci_tc (nI (r + v.toBitVec.toNat % 16 * 128) <<< ((25 - nI 4) &&& 31))
  have t2 := ci_tc v
  have t3 := v.toBitVec.isLt
  rw [e] at t1
  generalize (nI (r + v.toBitVec.toNat % 16 * 128) <<< ((25 - nI 4) &&& 31)).toInt = y at t1 ⊢
  generalize v.toInt = x at h1 h2 t2 ⊢
  generalize v.toBitVec.toNat = z at t1 t2 t3
  rcases t1 with t1 | t1 <;> rcases t2 with t2 | t2 <;> omega
theorem ci_sg_5 {r : Nat} {v : Int32} (hr : r < 128) (h1 : -16 ≤ v.toInt) (h2 : v.toInt < 16) : ci_sg (nI (r + v.toBitVec.toNat % 32 * 128)) (nI 5) = v := by
  apply Int32.toInt_inj.mp
  unfold ci_sg
  rw [pk_shr _ _ 27 (by decide), Int.shiftRight_eq_div_pow]
  have e : (nI (r + v.toBitVec.toNat % 32 * 128) <<< ((25 - nI 5) &&& 31)).toBitVec.toNat = (r + v.toBitVec.toNat % 32 * 128) * 2 ^ 20 % 2 ^ 32 := by
    rw [pk_shl _ _ 20 (by decide), pk_tn (by omega)]
  have t1 := ci_tc (nI (r + v.toBitVec.toNat % 32 * 128) <<< ((25 - nI 5) &&& 31))
  have t2 := ci_tc v
  have t3 := v.toBitVec.isLt
  rw [e] at t1
  generalize (nI (r + v.toBitVec.toNat % 32 * 128) <<< ((25 - nI 5) &&& 31)).toInt = y at t1 ⊢
  generalize v.toInt = x at h1 h2 t2 ⊢
  generalize v.toBitVec.toNat = z at t1 t2 t3
  rcases t1 with t1 | t1 <;> rcases t2 with t2 | t2 <;> omega
theorem ci_sg_6 {r : Nat} {v : Int32} (hr : r < 128) (h1 : -32 ≤ v.toInt) (h2 : v.toInt < 32) : ci_sg (nI (r + v.toBitVec.toNat % 64 * 128)) (nI 6) = v := by
  apply Int32.toInt_inj.mp
  unfold ci_sg
  rw [pk_shr _ _ 26 (by decide), Int.shiftRight_eq_div_pow]
  have e : (nI (r + v.toBitVec.toNat % 64 * 128) <<< ((25 - nI 6) &&& 31)).toBitVec.toNat = (r + v.toBitVec.toNat % 64 * 128) * 2 ^ 19 % 2 ^ 32 := by
    rw [pk_shl _ _ 19 (by decide), pk_tn (by omega)]
  have t1 := ci_tc (nI (r + v.toBitVec.toNat % 64 * 128) <<< ((25 - nI 6) &&& 31))
  have t2 := ci_tc v
  have t3 := v.toBitVec.isLt
  rw [e] at t1
  generalize (nI (r + v.toBitVec.toNat % 64 * 128) <<< ((25 - nI 6) &&& 31)).toInt = y at t1 ⊢
  generalize v.toInt = x at h1 h2 t2 ⊢
  generalize v.toBitVec.toNat = z at t1 t2 t3
  rcases t1 with t1 | t1 <;> rcases t2 with t2 | t2 <;> omega
theorem ci_sg_7 {r : Nat} {v : Int32} (hr : r < 128) (h1 : -64 ≤ v.toInt) (h2 : v.toInt < 64) : ci_sg (nI (r + v.toBitVec.toNat % 128 * 128)) (nI 7) = v := by
  apply Int32.toInt_inj.mp
  unfold ci_sg
  rw [pk_shr _ _ 25 (by decide), Int.shiftRight_eq_div_pow]
  have e : (nI (r + v.toBitVec.toNat % 128 * 128) <<< ((25 - nI 7) &&& 31)).toBitVec.toNat = (r + v.toBitVec.toNat % 128 * 128) * 2 ^ 18 % 2 ^ 32 := by
    rw [pk_shl _ _ 18 (by decide), pk_tn (by omega)]
  have t1 := ci_tc (nI (r + v.toBitVec.toNat % 128 * 128) <<< ((25 - nI 7) &&& 31))
  have t2 := ci_tc v
  have t3 := v.toBitVec.isLt
  rw [e] at t1
  generalize (nI (r + v.toBitVec.toNat % 128 * 128) <<< ((25 - nI 7) &&& 31)).toInt = y at t1 ⊢
  generalize v.toInt = x at h1 h2 t2 ⊢
  generalize v.toBitVec.toNat = z at t1 t2 t3
  rcases t1 with t1 | t1 <;> rcases t2 with t2 | t2 <;> omega
theorem ci_sg_8 {r : Nat} {v : Int32} (hr : r < 128) (h1 : -128 ≤ v.toInt) (h2 : v.toInt < 128) : ci_sg (nI (r + v.toBitVec.toNat % 256 * 128)) (nI 8) = v := by
  apply Int32.toInt_inj.mp
  unfold ci_sg
  rw [pk_shr _ _ 24 (by decide), Int.shiftRight_eq_div_pow]
  have e : (nI (r + v.toBitVec.toNat % 256 * 128) <<< ((25 - nI 8) &&& 31)).toBitVec.toNat = (r + v.toBitVec.toNat % 256 * 128) * 2 ^ 17 % 2 ^ 32 := by
    rw [pk_shl _ _ 17 (by decide), pk_tn (by omega)]
  have t1 := ci_tc (nI (r + v.toBitVec.toNat % 256 * 128) <<< ((25 - nI 8) &&& 31))
  have t2 := ci_tc v
  have t3 := v.toBitVec.isLt
  rw [e] at t1
  generalize (nI (r + v.toBitVec.toNat % 256 * 128) <<< ((25 - nI 8) &&& 31)).toInt = y at t1 ⊢
  generalize v.toInt = x at h1 h2 t2 ⊢
  generalize v.toBitVec.toNat = z at t1 t2 t3
  rcases t1 with t1 | t1 <;> rcases t2 with t2 | t2 <;> omega
theorem ci_sg_10 {r : Nat} {v : Int32} (hr : r < 128) (h1 : -512 ≤ v.toInt) (h2 : v.toInt < 512) : ci_sg (nI (r + v.toBitVec.toNat % 1024 * 128)) (nI 10) = v := by
  apply Int32.toInt_inj.mp
  unfold ci_sg
  rw [pk_shr _ _ 22 (by decide), Int.shiftRight_eq_div_pow]
  have e : (nI (r + v.toBitVec.toNat % 1024 * 128) <<< ((25 - nI 10) &&& 31)).toBitVec.toNat = (r + v.toBitVec.toNat % 1024 * 128) * 2 ^ 15 % 2 ^ 32 := by
    rw [pk_shl _ _ 15 (by decide), pk_tn (by omega)]
  have t1 := ci_tc (nI (r + v.toBitVec.toNat % 1024 * 128) <<< ((25 - nI 10) &&& 31))
  have t2 := ci_tc v
  have t3 := v.toBitVec.isLt
  rw [e] at t1
  generalize (nI (r + v.toBitVec.toNat % 1024 * 128) <<< ((25 - nI 10) &&& 31)).toInt = y at t1 ⊢
  generalize v.toInt = x at h1 h2 t2 ⊢
  generalize v.toBitVec.toNat = z at t1 t2 t3
  rcases t1 with t1 | t1 <;> rcases t2 with t2 | t2 <;> omega
theorem ci_sgv {k r : Nat} {v : Int32} (hk : ci_K k) (hr : r < 128) (h1 : -((2 ^ (k - 1) : Nat) : Int) ≤ v.toInt) (h2 : v.toInt < ((2 ^ (k - 1) : Nat) : Int)) : ci_sg (nI (r + v.toBitVec.toNat % 2 ^ k * 128)) (nI k) = v := by
  rcases hk with rfl | rfl | rfl | rfl | rfl | rfl | rfl
  · exact ci_sg_3 hr h1 h2
  · exact ci_sg_4 hr h1 h2
  · exact ci_sg_5 hr h1 h2
  · exact ci_sg_6 hr h1 h2
  · exact ci_sg_7 hr h1 h2
  · exact ci_sg_8 hr h1 h2
  · exact ci_sg_10 hr h1 h2
theorem ci_Klt {k : Nat} (hk : ci_K k) : k < 11 := by unfold ci_K at hk; omega
theorem ci_enc {k o a : Nat} {v : Int32} (hk : ci_K k) (ho : o < 16) (ha : a < 8) (h1 : -((2 ^ (k - 1) : Nat) : Int) ≤ v.toInt) (h2 : v.toInt < ((2 ^ (k - 1) : Nat) : Int)) :
    (((nI o ||| (nI a <<< ((4 : Int32) &&& 31))) ||| ci_fd v (nI k)) &&& 15 = nI o) ∧ ((((nI o ||| (nI a <<< ((4 : Int32) &&& 31))) ||| ci_fd v (nI k)) >>> ((4 : Int32) &&& 31)) &&& 7 = nI a) ∧ ci_sg ((nI o ||| (nI a <<< ((4 : Int32) &&& 31))) ||| ci_fd v (nI k)) (nI k) = v := by
  have h3 : v.toBitVec.toNat % 2 ^ k < 2 ^ k := Nat.mod_lt _ (Nat.two_pow_pos k)
  have h4 := ci_plt k (ci_Klt hk)
  rw [ci_fdN v (ci_Klt hk), ci_wo ho ha]
  exact ⟨ci_lo ho (by omega) ha, ci_mid ho (by omega) ha, ci_sgv hk (by omega) h1 h2⟩
theorem ci_encP {o a b : Nat} (ho : o < 16) (ha : a < 8) (hb : b < 8) :
    (((nI o ||| (nI a <<< ((4 : Int32) &&& 31))) ||| (nI b <<< ((7 : Int32) &&& 31))) &&& 15 = nI o) ∧ ((((nI o ||| (nI a <<< ((4 : Int32) &&& 31))) ||| (nI b <<< ((7 : Int32) &&& 31))) >>> ((4 : Int32) &&& 31)) &&& 7 = nI a) ∧ ((((nI o ||| (nI a <<< ((4 : Int32) &&& 31))) ||| (nI b <<< ((7 : Int32) &&& 31))) >>> ((7 : Int32) &&& 31)) &&& 7 = nI b) := by
  have e : nI b <<< ((7 : Int32) &&& 31) = nI (b * 128) := pk_shlN _ 7 (by decide) (by omega)
  rw [e, ci_wo ho ha]
  exact ⟨ci_lo ho (by omega) ha, ci_mid ho (by omega) ha, ci_hi ho hb ha⟩
theorem ci_encJ {v : Int32} (h1 : -512 ≤ v.toInt) (h2 : v.toInt < 512) : ci_sg (8 ||| ci_fd v 10) 10 = v := by
  have e1 : ci_fd v 10 = nI (v.toBitVec.toNat % 2 ^ 10 * 128) := ci_fdN v (k := 10) (by omega)
  have e2 : nI 8 ||| nI (v.toBitVec.toNat % 2 ^ 10 * 2 ^ 7) = nI (8 + v.toBitVec.toNat % 2 ^ 10 * 2 ^ 7) := ci_or (by omega)
  have e3 : ci_sg (nI (8 + v.toBitVec.toNat % 1024 * 128)) (nI 10) = v := ci_sg_10 (by omega) h1 h2
  rw [e1]
  exact (congrArg (fun z => ci_sg z 10) e2).trans e3
end
section
/-! the small read-only methods -/
def ci_n (a : Nat → Int32) (i : Nat) : Nat := (a i).toNatClampNeg
def ci_T (o : Int32) : Prop := 8 ≤ o ∧ o ≤ 11
def ci_stop (o : Int32) : Prop := o = 0 ∨ o = 8 ∨ o = 12
def ci_lol (lab : Nat → Int32) (b : Int32) : Int32 := if b < 0 then -4 else if b ≤ 15 then lab b.toNatClampNeg else -4
def ci_kind (o b : Int32) : Int32 := if o = 7 then (if b < -16 then -3 else if b ≤ 15 then -4 else -3) else if o < 9 then -4 else if 11 < o then -4 else -1
def ci_wd (sb lb : Nat) (o : Int32) : Nat := if o = 8 then 10 else if o = 7 then lb else if o = 13 then lb else sb
def ci_rc (sb lb : Nat) (o b : Int32) : Nat := if ci_kind o b = -4 then 4096 else 2 ^ (ci_wd sb lb o - 1) - 1
def ci_key (lab : Nat → Int32) (o b : Int32) : Int32 := if o = 7 then b else ci_lol lab b
def ci_in (r a q : Nat) : Prop := q ≤ a + r ∧ a ≤ q + r + 1
def ci_W (w : Nat) : Prop := 3 ≤ w ∧ w ≤ 8
theorem ci_wdK {sb lb : Nat} (hs : ci_W sb) (hl : ci_W lb) (o : Int32) : ci_K (ci_wd sb lb o) := by
  unfold ci_W at hs hl
  unfold ci_wd ci_K
  split
  · omega
  · split
    · omega
    · split <;> omega
theorem ci_sh1 : ∀ w : Nat, w < 11 → 1 ≤ w → ((1 : Int32) <<< ((nI w - 1) &&& 31)) - 1 = nI (2 ^ (w - 1) - 1) := by decide
theorem ci_rcLe {sb lb : Nat} (hs : ci_W sb) (hl : ci_W lb) (o b : Int32) : ci_rc sb lb o b ≤ 4096 := by
  unfold ci_rc
  split
  · omega
  · rcases ci_wdK hs hl o with e | e | e | e | e | e | e <;> rw [e] <;> decide
theorem ci_rcGe {sb lb : Nat} (hs : ci_W sb) (hl : ci_W lb) (o b : Int32) : 3 ≤ ci_rc sb lb o b := by
  unfold ci_rc
  split
  · omega
  · rcases ci_wdK hs hl o with e | e | e | e | e | e | e <;> rw [e] <;> decide
theorem ci_negT {r : Nat} (h : r < 1048576) : (-nI r - 1).toInt = -(r : Int) - 1 := by
  rw [Int32.toInt_sub, sb_negT (by omega), show (1 : Int32).toInt = 1 from by decide]
  exact Int.bmod_eq_of_le (by omega) (by omega)
section
variable {f_HALT f_MOVE f_ADD f_SUB f_MUL f_LOAD f_STORE f_CONST f_JUMP f_BZ f_BN f_CALL f_RET f_POOL f_VENEER f_AROUND f_LITERAL f_DIRECT f_WAITING f_CELLS f_JUMP_BITS f_IMMEDIATE_BITS f_FAR f_capacity f_depth f_firstShortBits f_firstLoadBits f_shortBits f_loadBits f_count f_size f_literalRuns f_assembled : Int32} {a_lineOp a_lineA a_lineB a_labels a_addresses a_via a_cells a_kinds a_keys a_data a_stack a_held a_spot a_state : Nat → Int32}
theorem ci_isT {post : Int32 → Prop} {o : Int32} (h0 : ¬ ci_T o → post 0) (h1 : ci_T o → post 1) : wpX_isTransfer post (f_HALT, f_MOVE, f_ADD, f_SUB, f_MUL, f_LOAD, f_STORE, f_CONST, f_JUMP, f_BZ, f_BN, f_CALL, f_RET, f_POOL, f_VENEER, f_AROUND, f_LITERAL, f_DIRECT, f_WAITING, f_CELLS, f_JUMP_BITS, f_IMMEDIATE_BITS, f_FAR, f_capacity, f_depth, f_firstShortBits, f_firstLoadBits, f_shortBits, f_loadBits, f_count, f_size, f_literalRuns, f_assembled, a_lineOp, a_lineA, a_lineB, a_labels, a_addresses, a_via, a_cells, a_kinds, a_keys, a_data, a_stack, a_held, a_spot, a_state) o :=
  br_c (fun c => h0 (fun z => Int32.not_le.mpr c z.1)) (fun c => br_c (fun d => h0 (fun z => Int32.not_le.mpr d z.2)) (fun d => h1 ⟨Int32.not_lt.mp c, Int32.not_lt.mp d⟩))
theorem ci_lineOfLabel {post : Int32 → Prop} {b : Int32} (h : post (ci_lol a_labels b)) : wpX_lineOfLabel post (f_HALT, f_MOVE, f_ADD, f_SUB, f_MUL, f_LOAD, f_STORE, f_CONST, f_JUMP, f_BZ, f_BN, f_CALL, f_RET, f_POOL, f_VENEER, f_AROUND, f_LITERAL, f_DIRECT, f_WAITING, f_CELLS, f_JUMP_BITS, f_IMMEDIATE_BITS, f_FAR, f_capacity, f_depth, f_firstShortBits, f_firstLoadBits, f_shortBits, f_loadBits, f_count, f_size, f_literalRuns, f_assembled, a_lineOp, a_lineA, a_lineB, a_labels, a_addresses, a_via, a_cells, a_kinds, a_keys, a_data, a_stack, a_held, a_spot, a_state) b := by
  unfold ci_lol at h
  refine br_c (fun c => ?_) (fun c => br_c (fun d => ⟨?_, ?_⟩) (fun d => ?_))
  · rw [if_pos c] at h
    exact h
  · obtain ⟨j, hj, rfl⟩ := nI_of2 (M := 15) (n := 15) (by decide) c d
    exact vp_in_nI (by omega) (by decide)
  · rw [if_neg c, if_pos d] at h
    exact h
  · rw [if_neg c, if_neg d] at h
    exact h
theorem ci_islandKind {post : Int32 → Prop} {i : Nat} (hi : i < 49) (h : post (ci_kind (a_lineOp i) (a_lineB i))) : wpX_islandKind post (f_HALT, f_MOVE, f_ADD, f_SUB, f_MUL, f_LOAD, f_STORE, f_CONST, f_JUMP, f_BZ, f_BN, f_CALL, f_RET, f_POOL, f_VENEER, f_AROUND, f_LITERAL, f_DIRECT, f_WAITING, f_CELLS, f_JUMP_BITS, f_IMMEDIATE_BITS, f_FAR, f_capacity, f_depth, f_firstShortBits, f_firstLoadBits, f_shortBits, f_loadBits, f_count, f_size, f_literalRuns, f_assembled, a_lineOp, a_lineA, a_lineB, a_labels, a_addresses, a_via, a_cells, a_kinds, a_keys, a_data, a_stack, a_held, a_spot, a_state) (nI i) := by
  have ei : (nI i).toNatClampNeg = i := nI_clamp (by omega)
  have vi : vp_in (nI i) 49 := vp_in_nI hi (by decide)
  unfold ci_kind at h
  unfold wpX_islandKind
  refine ⟨vi, nm_r (e' := a_lineOp i) (congrArg a_lineOp ei) ?_⟩
  have J : ¬ (a_lineOp i) = 7 ∨ post (-4) → wX_islandKind_38 post (a_lineOp i) f_HALT f_MOVE f_ADD f_SUB f_MUL f_LOAD f_STORE f_CONST f_JUMP f_BZ f_BN f_CALL f_RET f_POOL f_VENEER f_AROUND f_LITERAL f_DIRECT f_WAITING f_CELLS f_JUMP_BITS f_IMMEDIATE_BITS f_FAR f_capacity f_depth f_firstShortBits f_firstLoadBits f_shortBits f_loadBits f_count f_size f_literalRuns f_assembled a_lineOp a_lineA a_lineB a_labels a_addresses a_via a_cells a_kinds a_keys a_data a_stack a_held a_spot a_state := by
    intro z
    refine br_c (fun c => ?_) (fun c => br_c (fun d => ?_) (fun d => ?_))
    · rcases z with z | z
      · rw [if_neg z, if_pos c] at h
        exact h
      · exact z
    · rcases z with z | z
      · rw [if_neg z, if_neg c, if_pos d] at h
        exact h
      · exact z
    · rcases z with z | z
      · rw [if_neg z, if_neg c, if_neg d] at h
        exact h
      · by_cases y : a_lineOp i = 7
        · exact absurd (y ▸ (by decide : (7 : Int32) < 9)) c
        · rw [if_neg y, if_neg c, if_neg d] at h
          exact h
  refine br_c (fun c => ⟨vi, ?_⟩) (fun c => J (Or.inl c))
  rw [ei]
  rw [if_pos c] at h
  refine br_c (fun d => ?_) (fun d => ⟨vi, ?_⟩)
  · rw [if_pos d] at h
    exact h
  · rw [if_neg d] at h
    refine br_c (fun e => ?_) (fun e => ?_)
    · rw [if_pos e] at h
      exact J (Or.inr h)
    · rw [if_neg e] at h
      exact h
theorem ci_keyOf {post : Int32 → Prop} {i : Nat} (hi : i < 49) (h : post (ci_key a_labels (a_lineOp i) (a_lineB i))) : wpX_keyOf post (f_HALT, f_MOVE, f_ADD, f_SUB, f_MUL, f_LOAD, f_STORE, f_CONST, f_JUMP, f_BZ, f_BN, f_CALL, f_RET, f_POOL, f_VENEER, f_AROUND, f_LITERAL, f_DIRECT, f_WAITING, f_CELLS, f_JUMP_BITS, f_IMMEDIATE_BITS, f_FAR, f_capacity, f_depth, f_firstShortBits, f_firstLoadBits, f_shortBits, f_loadBits, f_count, f_size, f_literalRuns, f_assembled, a_lineOp, a_lineA, a_lineB, a_labels, a_addresses, a_via, a_cells, a_kinds, a_keys, a_data, a_stack, a_held, a_spot, a_state) (nI i) := by
  have ei : (nI i).toNatClampNeg = i := nI_clamp (by omega)
  have vi : vp_in (nI i) 49 := vp_in_nI hi (by decide)
  unfold ci_key at h
  unfold wpX_keyOf
  refine ⟨vi, ?_⟩
  rw [ei]
  refine br_c (fun c => ⟨vi, ?_⟩) (fun c => ⟨vi, ci_lineOfLabel ?_⟩)
  · rw [if_pos c] at h
    exact h
  · rw [if_neg c] at h
    exact h
theorem ci_afterStop {post : Int32 → Prop} {p : Nat} (hp : p ≤ 49) (h0 : (∀ j, j + 1 = p → ¬ ci_stop (a_lineOp j)) → post 0) (h1 : ∀ j, j + 1 = p → ci_stop (a_lineOp j) → post 1) : wpX_afterStop post (f_HALT, f_MOVE, f_ADD, f_SUB, f_MUL, f_LOAD, f_STORE, f_CONST, f_JUMP, f_BZ, f_BN, f_CALL, f_RET, f_POOL, f_VENEER, f_AROUND, f_LITERAL, f_DIRECT, f_WAITING, f_CELLS, f_JUMP_BITS, f_IMMEDIATE_BITS, f_FAR, f_capacity, f_depth, f_firstShortBits, f_firstLoadBits, f_shortBits, f_loadBits, f_count, f_size, f_literalRuns, f_assembled, a_lineOp, a_lineA, a_lineB, a_labels, a_addresses, a_via, a_cells, a_kinds, a_keys, a_data, a_stack, a_held, a_spot, a_state) (nI p) := by
  cases p with
  | zero => exact br_t (by decide) (h0 (fun j hj => absurd hj (by omega)))
  | succ j =>
    have ej : (nI j).toNatClampNeg = j := nI_clamp (by omega)
    have vi : vp_in (nI j) 49 := vp_in_nI (by omega) (by decide)
    have K : ¬ ci_stop (a_lineOp j) → post 0 := fun z => h0 (fun i hi => by
      have e : i = j := by omega
      rw [e]
      exact z)
    unfold wpX_afterStop
    refine br_f (nI_nle (by omega) (by omega)) ?_
    rw [nI_pred, ej]
    exact ⟨vi, br_c (fun c => h1 j rfl (Or.inl c)) (fun c => ⟨vi, br_c (fun d => h1 j rfl (Or.inr (Or.inl d))) (fun d => ⟨vi, br_c (fun e => h1 j rfl (Or.inr (Or.inr e))) (fun e => K (fun z => by
      rcases z with z | z | z
      · exact c z
      · exact d z
      · exact e z))⟩)⟩)⟩
end
section
variable {f_HALT f_MOVE f_ADD f_SUB f_MUL f_LOAD f_STORE f_CONST f_JUMP f_BZ f_BN f_CALL f_RET f_POOL f_VENEER f_AROUND f_LITERAL f_DIRECT f_WAITING f_CELLS f_JUMP_BITS f_IMMEDIATE_BITS f_FAR f_capacity f_depth f_firstShortBits f_firstLoadBits f_literalRuns f_assembled : Int32} {a_lineOp a_lineA a_lineB a_labels a_addresses a_via a_cells a_kinds a_keys a_data a_stack a_held a_spot a_state : Nat → Int32} {c sb lb sz : Nat}
theorem ci_widthOf {post : Int32 → Prop} {o : Int32} (h : post (nI (ci_wd sb lb o))) : wpX_widthOf post (f_HALT, f_MOVE, f_ADD, f_SUB, f_MUL, f_LOAD, f_STORE, f_CONST, f_JUMP, f_BZ, f_BN, f_CALL, f_RET, f_POOL, f_VENEER, f_AROUND, f_LITERAL, f_DIRECT, f_WAITING, f_CELLS, f_JUMP_BITS, f_IMMEDIATE_BITS, f_FAR, f_capacity, f_depth, f_firstShortBits, f_firstLoadBits, nI sb, nI lb, nI c, nI sz, f_literalRuns, f_assembled, a_lineOp, a_lineA, a_lineB, a_labels, a_addresses, a_via, a_cells, a_kinds, a_keys, a_data, a_stack, a_held, a_spot, a_state) o := by
  unfold ci_wd at h
  refine br_c (fun c1 => ?_) (fun c1 => br_c (fun c2 => ?_) (fun c2 => br_c (fun c3 => ?_) (fun c3 => ?_)))
  · rw [if_pos c1] at h
    exact h
  · rw [if_neg c1, if_pos c2] at h
    exact h
  · rw [if_neg c1, if_neg c2, if_pos c3] at h
    exact h
  · rw [if_neg c1, if_neg c2, if_neg c3] at h
    exact h
theorem ci_reach {post : Int32 → Prop} {i : Nat} (hs : ci_W sb) (hl : ci_W lb) (hi : i < 49) (h : post (nI (ci_rc sb lb (a_lineOp i) (a_lineB i)))) : wpX_reach post (f_HALT, f_MOVE, f_ADD, f_SUB, f_MUL, f_LOAD, f_STORE, f_CONST, f_JUMP, f_BZ, f_BN, f_CALL, f_RET, f_POOL, f_VENEER, f_AROUND, f_LITERAL, f_DIRECT, f_WAITING, f_CELLS, f_JUMP_BITS, f_IMMEDIATE_BITS, f_FAR, f_capacity, f_depth, f_firstShortBits, f_firstLoadBits, nI sb, nI lb, nI c, nI sz, f_literalRuns, f_assembled, a_lineOp, a_lineA, a_lineB, a_labels, a_addresses, a_via, a_cells, a_kinds, a_keys, a_data, a_stack, a_held, a_spot, a_state) (nI i) := by
  have ei : (nI i).toNatClampNeg = i := nI_clamp (by omega)
  have vi : vp_in (nI i) 49 := vp_in_nI hi (by decide)
  unfold ci_rc at h
  unfold wpX_reach
  refine ci_islandKind hi ?_
  refine br_c (fun c1 => ?_) (fun c1 => ⟨vi, ?_⟩)
  · rw [if_pos c1] at h
    exact h
  · rw [if_neg c1] at h
    rw [ei]
    refine ci_widthOf ?_
    have k := ci_wdK hs hl (a_lineOp i)
    rw [ci_sh1 _ (ci_Klt k) (by unfold ci_K at k; omega)]
    exact h
theorem ci_inReach {post : Int32 → Prop} {i a q : Nat} (hs : ci_W sb) (hl : ci_W lb) (hi : i < 49) (ha : a_addresses i = nI a) (hA : a < 1048576) (hq : q < 1048576) (h0 : post 0) (h1 : ci_in (ci_rc sb lb (a_lineOp i) (a_lineB i)) a q → post 1) : wpX_inReach post (f_HALT, f_MOVE, f_ADD, f_SUB, f_MUL, f_LOAD, f_STORE, f_CONST, f_JUMP, f_BZ, f_BN, f_CALL, f_RET, f_POOL, f_VENEER, f_AROUND, f_LITERAL, f_DIRECT, f_WAITING, f_CELLS, f_JUMP_BITS, f_IMMEDIATE_BITS, f_FAR, f_capacity, f_depth, f_firstShortBits, f_firstLoadBits, nI sb, nI lb, nI c, nI sz, f_literalRuns, f_assembled, a_lineOp, a_lineA, a_lineB, a_labels, a_addresses, a_via, a_cells, a_kinds, a_keys, a_data, a_stack, a_held, a_spot, a_state) (nI i) (nI q) := by
  have ei : (nI i).toNatClampNeg = i := nI_clamp (by omega)
  have vi : vp_in (nI i) 49 := vp_in_nI hi (by decide)
  have hr := ci_rcLe hs hl (a_lineOp i) (a_lineB i)
  unfold wpX_inReach
  refine ci_reach hs hl hi ?_
  refine ⟨vi, nm_r (e' := nI q - nI a) (by rw [ei, ha]) ?_⟩
  refine br_c (fun _ => h0) (fun c1 => br_c (fun _ => h0) (fun c2 => h1 ?_))
  generalize ci_rc sb lb (a_lineOp i) (a_lineB i) = r at *
  rw [Int32.lt_iff_toInt_lt, pk_sub_toInt (by omega) (by omega), nI_toInt (by omega)] at c1
  rw [Int32.lt_iff_toInt_lt, pk_sub_toInt (by omega) (by omega), ci_negT (by omega)] at c2
  unfold ci_in
  omega
theorem ci_find15 {post : Int32 → Prop} {x2 x3 : Int32} {i a : Nat} (hs : ci_W sb) (hl : ci_W lb) (hi : i < 49) (ha : a_addresses i = nI a) (hA : a < 1048576) (hz : sz ≤ 192) (h0 : post (-2)) (h1 : ∀ q, q < sz → a_kinds q = x2 → a_keys q = x3 → ci_in (ci_rc sb lb (a_lineOp i) (a_lineB i)) a q → post (nI q)) : ∀ n x : Nat, sz < n + x → x ≤ sz → wX_find_15 post (nI i) x2 x3 f_HALT f_MOVE f_ADD f_SUB f_MUL f_LOAD f_STORE f_CONST f_JUMP f_BZ f_BN f_CALL f_RET f_POOL f_VENEER f_AROUND f_LITERAL f_DIRECT f_WAITING f_CELLS f_JUMP_BITS f_IMMEDIATE_BITS f_FAR f_capacity f_depth f_firstShortBits f_firstLoadBits (nI sb) (nI lb) (nI c) (nI sz) f_literalRuns f_assembled a_lineOp a_lineA a_lineB a_labels a_addresses a_via a_cells a_kinds a_keys a_data a_stack a_held a_spot a_state n (nI x) := by
  intro n
  induction n with
  | zero => intro x h2 h3; omega
  | succ n ih =>
    intro x h2 h3
    by_cases hx : sz ≤ x
    · exact br_t (nI_le hx (by omega)) h0
    · have ex : (nI x).toNatClampNeg = x := nI_clamp (by omega)
      have vx : vp_in (nI x) 192 := vp_in_nI (by omega) (by decide)
      have N : ∀ y : Int32, y = nI x + 1 → wX_find_15 post (nI i) x2 x3 f_HALT f_MOVE f_ADD f_SUB f_MUL f_LOAD f_STORE f_CONST f_JUMP f_BZ f_BN f_CALL f_RET f_POOL f_VENEER f_AROUND f_LITERAL f_DIRECT f_WAITING f_CELLS f_JUMP_BITS f_IMMEDIATE_BITS f_FAR f_capacity f_depth f_firstShortBits f_firstLoadBits (nI sb) (nI lb) (nI c) (nI sz) f_literalRuns f_assembled a_lineOp a_lineA a_lineB a_labels a_addresses a_via a_cells a_kinds a_keys a_data a_stack a_held a_spot a_state n y := fun y ey => by
        rw [ey, nI_1]
        exact ih (x + 1) (by omega) (by omega)
      refine br_f (nI_ge (by omega) (by omega)) ⟨vx, br_c (fun c1 => ⟨vx, br_c (fun c2 => ?_) (fun _ => N)⟩) (fun _ => N)⟩
      rw [ex] at c1 c2
      refine ci_inReach hs hl hi ha hA (by omega) ?_ ?_
      · exact br_t rfl N
      · intro hin
        exact br_f (by decide) (h1 x (by omega) c1 c2 hin)
theorem ci_find {post : Int32 → Prop} {i a : Nat} (hs : ci_W sb) (hl : ci_W lb) (hi : i < 49) (ha : a_addresses i = nI a) (hA : a < 1048576) (hz : sz ≤ 192) (h0 : post (-2)) (h1 : ∀ q, q < sz → a_kinds q = ci_kind (a_lineOp i) (a_lineB i) → a_keys q = ci_key a_labels (a_lineOp i) (a_lineB i) → ci_in (ci_rc sb lb (a_lineOp i) (a_lineB i)) a q → post (nI q)) : wpX_find post (f_HALT, f_MOVE, f_ADD, f_SUB, f_MUL, f_LOAD, f_STORE, f_CONST, f_JUMP, f_BZ, f_BN, f_CALL, f_RET, f_POOL, f_VENEER, f_AROUND, f_LITERAL, f_DIRECT, f_WAITING, f_CELLS, f_JUMP_BITS, f_IMMEDIATE_BITS, f_FAR, f_capacity, f_depth, f_firstShortBits, f_firstLoadBits, nI sb, nI lb, nI c, nI sz, f_literalRuns, f_assembled, a_lineOp, a_lineA, a_lineB, a_labels, a_addresses, a_via, a_cells, a_kinds, a_keys, a_data, a_stack, a_held, a_spot, a_state) (nI i) := by
  unfold wpX_find
  refine ci_islandKind hi ?_
  refine ci_keyOf hi ?_
  exact ⟨sz + 1, ci_find15 hs hl hi ha hA hz h0 h1 (sz + 1) 0 (by omega) (by omega)⟩
theorem ci_put {post : SX → Prop} {k y : Int32} (hz : sz < 192) (h : post (f_HALT, f_MOVE, f_ADD, f_SUB, f_MUL, f_LOAD, f_STORE, f_CONST, f_JUMP, f_BZ, f_BN, f_CALL, f_RET, f_POOL, f_VENEER, f_AROUND, f_LITERAL, f_DIRECT, f_WAITING, f_CELLS, f_JUMP_BITS, f_IMMEDIATE_BITS, f_FAR, f_capacity, f_depth, f_firstShortBits, f_firstLoadBits, nI sb, nI lb, nI c, nI (sz + 1), f_literalRuns, f_assembled, a_lineOp, a_lineA, a_lineB, a_labels, a_addresses, a_via, a_cells, upd a_kinds sz k, upd a_keys sz y, a_data, a_stack, a_held, a_spot, a_state)) : wpX_put post (f_HALT, f_MOVE, f_ADD, f_SUB, f_MUL, f_LOAD, f_STORE, f_CONST, f_JUMP, f_BZ, f_BN, f_CALL, f_RET, f_POOL, f_VENEER, f_AROUND, f_LITERAL, f_DIRECT, f_WAITING, f_CELLS, f_JUMP_BITS, f_IMMEDIATE_BITS, f_FAR, f_capacity, f_depth, f_firstShortBits, f_firstLoadBits, nI sb, nI lb, nI c, nI sz, f_literalRuns, f_assembled, a_lineOp, a_lineA, a_lineB, a_labels, a_addresses, a_via, a_cells, a_kinds, a_keys, a_data, a_stack, a_held, a_spot, a_state) k y := by
  have ez : (nI sz).toNatClampNeg = sz := nI_clamp (by omega)
  have vz : vp_in (nI sz) 192 := vp_in_nI hz (by decide)
  exact br_t (nI_lt (b := 192) hz (by decide)) ⟨vz, nm_r (by rw [ez]) ⟨vz, nm_r (by rw [ez]) (nm_r (nI_1 sz) h)⟩⟩
theorem ci_addressOf {post : Int32 → Prop} {g : Nat} (hc : c ≤ 48) (hg : g ≤ c) (h : post (a_addresses g)) : wpX_addressOf post (f_HALT, f_MOVE, f_ADD, f_SUB, f_MUL, f_LOAD, f_STORE, f_CONST, f_JUMP, f_BZ, f_BN, f_CALL, f_RET, f_POOL, f_VENEER, f_AROUND, f_LITERAL, f_DIRECT, f_WAITING, f_CELLS, f_JUMP_BITS, f_IMMEDIATE_BITS, f_FAR, f_capacity, f_depth, f_firstShortBits, f_firstLoadBits, nI sb, nI lb, nI c, nI sz, f_literalRuns, f_assembled, a_lineOp, a_lineA, a_lineB, a_labels, a_addresses, a_via, a_cells, a_kinds, a_keys, a_data, a_stack, a_held, a_spot, a_state) (nI g) := by
  have eg : (nI g).toNatClampNeg = g := nI_clamp (by omega)
  refine br_f (nI_pos (by omega)) (br_t (nI_le hg (by omega)) ⟨vp_in_nI (by omega) (by decide), ?_⟩)
  rw [eg]
  exact h
theorem ci_addressOfAny {post : Int32 → Prop} {x : Int32} (hc : c ≤ 48) (h : ∀ r, post r) : wpX_addressOf post (f_HALT, f_MOVE, f_ADD, f_SUB, f_MUL, f_LOAD, f_STORE, f_CONST, f_JUMP, f_BZ, f_BN, f_CALL, f_RET, f_POOL, f_VENEER, f_AROUND, f_LITERAL, f_DIRECT, f_WAITING, f_CELLS, f_JUMP_BITS, f_IMMEDIATE_BITS, f_FAR, f_capacity, f_depth, f_firstShortBits, f_firstLoadBits, nI sb, nI lb, nI c, nI sz, f_literalRuns, f_assembled, a_lineOp, a_lineA, a_lineB, a_labels, a_addresses, a_via, a_cells, a_kinds, a_keys, a_data, a_stack, a_held, a_spot, a_state) x := by
  refine br_c (fun _ => h _) (fun c1 => br_c (fun c2 => ⟨?_, h _⟩) (fun _ => h _))
  obtain ⟨j, hj, rfl⟩ := nI_of c1
  rw [nI_leI hj (by omega)] at c2
  exact vp_in_nI (by omega) (by decide)
theorem ci_seesGoal {post : Int32 → Prop} {i a p : Nat} (hs : ci_W sb) (hl : ci_W lb) (hc : c ≤ 48) (hi : i < 49) (ha : a_addresses i = nI a) (hA : a < 1048576) (hp : p ≤ c)
    (hk : ci_kind (a_lineOp i) (a_lineB i) = -1 → ∃ g, g ≤ c ∧ ci_key a_labels (a_lineOp i) (a_lineB i) = nI g)
    (hg : ∀ g, g ≤ p → a_addresses g = nI (ci_n a_addresses g) ∧ ci_n a_addresses g < 1048576)
    (h0 : post 0) (h1 : ∀ g, ci_kind (a_lineOp i) (a_lineB i) = -1 → g ≤ p → ci_key a_labels (a_lineOp i) (a_lineB i) = nI g → ci_in (ci_rc sb lb (a_lineOp i) (a_lineB i)) a (ci_n a_addresses g) → post 1) : wpX_seesGoal post (f_HALT, f_MOVE, f_ADD, f_SUB, f_MUL, f_LOAD, f_STORE, f_CONST, f_JUMP, f_BZ, f_BN, f_CALL, f_RET, f_POOL, f_VENEER, f_AROUND, f_LITERAL, f_DIRECT, f_WAITING, f_CELLS, f_JUMP_BITS, f_IMMEDIATE_BITS, f_FAR, f_capacity, f_depth, f_firstShortBits, f_firstLoadBits, nI sb, nI lb, nI c, nI sz, f_literalRuns, f_assembled, a_lineOp, a_lineA, a_lineB, a_labels, a_addresses, a_via, a_cells, a_kinds, a_keys, a_data, a_stack, a_held, a_spot, a_state) (nI i) (nI p) := by
  unfold wpX_seesGoal
  refine ci_keyOf hi ?_
  by_cases k : ci_kind (a_lineOp i) (a_lineB i) = -1
  · obtain ⟨g, hgc, eg⟩ := hk k
    rw [eg]
    refine ci_addressOf hc hgc ?_
    refine ci_islandKind hi ?_
    refine br_t k (pk_lt p g (fun _ => h0) (fun hgp => ?_))
    rw [(hg g hgp).1]
    refine ci_inReach hs hl hi ha hA (hg g hgp).2 (br_t rfl h0) (fun hin => br_f (by decide) (h1 g k hgp eg hin))
  · refine ci_addressOfAny hc (fun r => ?_)
    refine ci_islandKind hi ?_
    exact br_f k h0
end
end
section
/-! waiting counts, fits, mustFlush -/
def ci_wc (via : Nat → Int32) : Nat → Nat
  | 0 => 0
  | n + 1 => ci_wc via n + (if via n = -2 then 1 else 0)
theorem ci_wc1 {via : Nat → Int32} {n : Nat} (h : via n = -2) : ci_wc via (n + 1) = ci_wc via n + 1 := by
  show ci_wc via n + (if via n = -2 then 1 else 0) = _
  rw [if_pos h]
theorem ci_wc0 {via : Nat → Int32} {n : Nat} (h : ¬ via n = -2) : ci_wc via (n + 1) = ci_wc via n := by
  show ci_wc via n + (if via n = -2 then 1 else 0) = _
  rw [if_neg h]
  rfl
theorem ci_wcM {via : Nat → Int32} {a : Nat} : ∀ b, a ≤ b → ci_wc via a ≤ ci_wc via b := by
  intro b
  induction b with
  | zero => intro h; rw [show a = 0 by omega]; exact Nat.le_refl _
  | succ b ih =>
    intro h
    by_cases e : a = b + 1
    · rw [e]; exact Nat.le_refl _
    · have := ih (by omega)
      have h2 : ci_wc via b ≤ ci_wc via (b + 1) := Nat.le_add_right _ _
      omega
theorem ci_wcN {via : Nat → Int32} {n : Nat} : ci_wc via n ≤ n := by
  induction n with
  | zero => exact Nat.le_refl _
  | succ n ih =>
    by_cases h : via n = -2
    · rw [ci_wc1 h]; omega
    · rw [ci_wc0 h]; omega
theorem ci_wcZ {via : Nat → Int32} {a : Nat} : ∀ b, a ≤ b → (∀ i, a ≤ i → i < b → ¬ via i = -2) → ci_wc via b = ci_wc via a := by
  intro b
  induction b with
  | zero => intro h _; rw [show a = 0 by omega]
  | succ b ih =>
    intro h k
    by_cases e : a = b + 1
    · rw [e]
    · rw [ci_wc0 (k b (by omega) (by omega))]
      exact ih (by omega) (fun i h1 h2 => k i h1 (by omega))
theorem ci_wc00 {via : Nat → Int32} {b : Nat} (k : ∀ i, i < b → ¬ via i = -2) : ci_wc via b = 0 := ci_wcZ (a := 0) b (by omega) (fun i _ h => k i h)
theorem ci_wcE {via via' : Nat → Int32} : ∀ b, (∀ i, i < b → via i = via' i) → ci_wc via b = ci_wc via' b := by
  intro b
  induction b with
  | zero => intro _; rfl
  | succ b ih =>
    intro k
    show ci_wc via b + (if via b = -2 then 1 else 0) = ci_wc via' b + (if via' b = -2 then 1 else 0)
    rw [ih (fun i h => k i (by omega)), k b (by omega)]
theorem ci_wcU {via : Nat → Int32} {x : Nat} {v : Int32} (hv : ¬ v = -2) : ∀ b, ci_wc (upd via x v) b ≤ ci_wc via b := by
  intro b
  induction b with
  | zero => exact Nat.le_refl _
  | succ b ih =>
    by_cases e : b = x
    · subst e
      have h : ¬ upd via b v b = -2 := by rw [pk_us]; exact hv
      rw [ci_wc0 h]
      exact Nat.le_trans ih (Nat.le_add_right _ _)
    · show ci_wc (upd via x v) b + (if upd via x v b = -2 then 1 else 0) ≤ ci_wc via b + (if via b = -2 then 1 else 0)
      rw [pk_un e]
      omega
theorem ci_wcP {via : Nat → Int32} {x : Nat} {v : Int32} (hv : ¬ v = -2) (hx : via x = -2) : ∀ b, x < b → ci_wc (upd via x v) b + 1 ≤ ci_wc via b := by
  intro b
  induction b with
  | zero => intro h; omega
  | succ b ih =>
    intro h
    by_cases e : b = x
    · subst e
      have h1 : ¬ upd via b v b = -2 := by rw [pk_us]; exact hv
      rw [ci_wc0 h1, ci_wc1 hx]
      have := ci_wcU (via := via) (x := b) hv b
      omega
    · have := ih (by omega)
      show ci_wc (upd via x v) b + (if upd via x v b = -2 then 1 else 0) + 1 ≤ ci_wc via b + (if via b = -2 then 1 else 0)
      rw [pk_un e]
      omega
/-- every waiting line's cell, laid in order from s on, is in reach -/
def ci_Ft (op B ad via : Nat → Int32) (sb lb c s : Nat) : Prop := ∀ i, i ≤ c → via i = -2 → s + ci_wc via i ≤ ci_n ad i + ci_rc sb lb (op i) (B i)
section
variable {f_HALT f_MOVE f_ADD f_SUB f_MUL f_LOAD f_STORE f_CONST f_JUMP f_BZ f_BN f_CALL f_RET f_POOL f_VENEER f_AROUND f_LITERAL f_DIRECT f_WAITING f_CELLS f_JUMP_BITS f_IMMEDIATE_BITS f_FAR f_capacity f_depth f_firstShortBits f_firstLoadBits f_literalRuns f_assembled : Int32} {a_lineOp a_lineA a_lineB a_labels a_addresses a_via a_cells a_kinds a_keys a_data a_stack a_held a_spot a_state : Nat → Int32} {c sb lb sz : Nat}
theorem ci_fits5 {post : Int32 → Prop} {e s : Nat} (hs : ci_W sb) (hl : ci_W lb) (hc : c ≤ 48) (he : e < 1048576) (hS : s < 1048576)
    (hA : ∀ i, i ≤ c → a_via i = -2 → a_addresses i = nI (ci_n a_addresses i) ∧ ci_n a_addresses i < 1048576)
    (h0 : post 0) (h1 : ci_Ft a_lineOp a_lineB a_addresses a_via sb lb c s → s + ci_wc a_via (c + 1) ≤ e → post 1) :
    ∀ n x : Nat, c + 1 < n + x → x ≤ c + 1 → (∀ i, i < x → a_via i = -2 → s + ci_wc a_via i ≤ ci_n a_addresses i + ci_rc sb lb (a_lineOp i) (a_lineB i)) → wX_fits_5 post (nI e) f_HALT f_MOVE f_ADD f_SUB f_MUL f_LOAD f_STORE f_CONST f_JUMP f_BZ f_BN f_CALL f_RET f_POOL f_VENEER f_AROUND f_LITERAL f_DIRECT f_WAITING f_CELLS f_JUMP_BITS f_IMMEDIATE_BITS f_FAR f_capacity f_depth f_firstShortBits f_firstLoadBits (nI sb) (nI lb) (nI c) (nI sz) f_literalRuns f_assembled a_lineOp a_lineA a_lineB a_labels a_addresses a_via a_cells a_kinds a_keys a_data a_stack a_held a_spot a_state n (nI (s + ci_wc a_via x)) (nI x) := by
  intro n
  induction n with
  | zero => intro x h2 h3; omega
  | succ n ih =>
    intro x h2 h3 F
    have hw : ci_wc a_via x ≤ x := ci_wcN
    by_cases hx : c < x
    · have e1 : x = c + 1 := by omega
      subst e1
      exact br_t (nI_lt hx (by omega)) (pk_lt e (s + ci_wc a_via (c + 1)) (fun _ => h0) (fun h => h1 (fun i hi w => F i (by omega) w) h))
    · have ex : (nI x).toNatClampNeg = x := nI_clamp (by omega)
      have vx : vp_in (nI x) 49 := vp_in_nI (by omega) (by decide)
      refine br_f (nI_nlt (by omega) (by omega)) ⟨vx, br_c (fun c1 => ⟨vx, ?_⟩) (fun c1 => ?_)⟩
      · have w : a_via x = -2 := by rw [ex] at c1; exact c1
        obtain ⟨a1, a2⟩ := hA x (by omega) w
        have hr := ci_rcLe hs hl (a_lineOp x) (a_lineB x)
        refine ci_reach hs hl (by omega) ?_
        refine br_c (fun d => ?_) (fun _ => h0)
        rw [ex, a1, nI_add, nI_leI (by omega) (by omega)] at d
        refine ⟨vx, br_t c1 (nm_r (nI_1 _) (nm_r (nI_1 _) ?_))⟩
        have k := ih (x + 1) (by omega) (by omega) (fun i hi w2 => by
          by_cases e2 : i = x
          · subst e2; exact d
          · exact F i (by omega) w2)
        rw [ci_wc1 w, ← Nat.add_assoc] at k
        exact k
      · have w : ¬ a_via x = -2 := by rw [ex] at c1; exact c1
        refine ⟨vx, br_f c1 (nm_r (nI_1 _) ?_)⟩
        have k := ih (x + 1) (by omega) (by omega) (fun i hi w2 => by
          by_cases e2 : i = x
          · subst e2; exact absurd w2 w
          · exact F i (by omega) w2)
        rw [ci_wc0 w] at k
        exact k
theorem ci_fits {post : Int32 → Prop} {e s : Nat} (hs : ci_W sb) (hl : ci_W lb) (hc : c ≤ 48) (he : e < 1048576) (hS : s < 1048576)
    (hA : ∀ i, i ≤ c → a_via i = -2 → a_addresses i = nI (ci_n a_addresses i) ∧ ci_n a_addresses i < 1048576)
    (h0 : post 0) (h1 : ci_Ft a_lineOp a_lineB a_addresses a_via sb lb c s → s + ci_wc a_via (c + 1) ≤ e → post 1) : wpX_fits post (f_HALT, f_MOVE, f_ADD, f_SUB, f_MUL, f_LOAD, f_STORE, f_CONST, f_JUMP, f_BZ, f_BN, f_CALL, f_RET, f_POOL, f_VENEER, f_AROUND, f_LITERAL, f_DIRECT, f_WAITING, f_CELLS, f_JUMP_BITS, f_IMMEDIATE_BITS, f_FAR, f_capacity, f_depth, f_firstShortBits, f_firstLoadBits, nI sb, nI lb, nI c, nI sz, f_literalRuns, f_assembled, a_lineOp, a_lineA, a_lineB, a_labels, a_addresses, a_via, a_cells, a_kinds, a_keys, a_data, a_stack, a_held, a_spot, a_state) (nI s) (nI e) :=
  ⟨c + 2, ci_fits5 hs hl hc he hS hA h0 h1 (c + 2) 0 (by omega) (by omega) (fun i hi => absurd hi (by omega))⟩
theorem ci_mustFlush {post : Int32 → Prop} {p : Nat} (hs : ci_W sb) (hl : ci_W lb) (hc : c ≤ 48) (hp : p ≤ c) (hz : sz ≤ 192)
    (hA : ∀ i, i ≤ c → a_via i = -2 → a_addresses i = nI (ci_n a_addresses i) ∧ ci_n a_addresses i < 1048576)
    (h1 : post 1) (h0 : ci_Ft a_lineOp a_lineB a_addresses a_via sb lb c (sz + 2) → sz + 2 + ci_wc a_via (c + 1) ≤ sz + ci_rc sb lb (a_lineOp p) (a_lineB p) → post 0) : wpX_mustFlush post (f_HALT, f_MOVE, f_ADD, f_SUB, f_MUL, f_LOAD, f_STORE, f_CONST, f_JUMP, f_BZ, f_BN, f_CALL, f_RET, f_POOL, f_VENEER, f_AROUND, f_LITERAL, f_DIRECT, f_WAITING, f_CELLS, f_JUMP_BITS, f_IMMEDIATE_BITS, f_FAR, f_capacity, f_depth, f_firstShortBits, f_firstLoadBits, nI sb, nI lb, nI c, nI sz, f_literalRuns, f_assembled, a_lineOp, a_lineA, a_lineB, a_labels, a_addresses, a_via, a_cells, a_kinds, a_keys, a_data, a_stack, a_held, a_spot, a_state) (nI p) := by
  have hr := ci_rcLe hs hl (a_lineOp p) (a_lineB p)
  unfold wpX_mustFlush
  refine ci_reach hs hl (by omega) ?_
  refine nm_r (nI_add _ _) ?_
  rw [show nI sz + 2 = nI (sz + 2) from nI_add sz 2]
  refine ci_fits hs hl hc (by omega) (by omega) hA (br_t rfl h1) (fun F E => br_f (by decide) ?_)
  refine ci_afterStop (by omega) (fun _ => br_t rfl (h0 F E)) (fun _ _ _ => br_f (by decide) ?_)
  rw [show nI sz + 6 = nI (sz + 6) from nI_add sz 6]
  exact ci_fits (e := 4096) hs hl hc (by omega) (by omega) hA (br_t rfl h1) (fun _ _ => br_f (by decide) (h0 F E))
end
end
section
/-! the layout's invariant, in plain terms -/
def ci_Cell (c p q : Nat) (ad kd ky : Nat → Int32) : Prop := (∃ i, i < p ∧ kd q = nI i ∧ ci_n ad i = q) ∨ ((kd q = -1 ∨ kd q = -2) ∧ ∃ g, g ≤ c ∧ ky q = nI g) ∨ kd q = -3
def ci_Srv (op B lab : Nat → Int32) (sb lb sz : Nat) (ad kd ky : Nat → Int32) (i q : Nat) : Prop := q < sz ∧ kd q = ci_kind (op i) (B i) ∧ ky q = ci_key lab (op i) (B i) ∧ ci_in (ci_rc sb lb (op i) (B i)) (ci_n ad i) q
def ci_Dir (op B lab : Nat → Int32) (sb lb p : Nat) (ad : Nat → Int32) (i : Nat) : Prop := ci_kind (op i) (B i) = -4 ∨ (ci_kind (op i) (B i) = -1 ∧ ∃ g, g < p ∧ ci_key lab (op i) (B i) = nI g ∧ ci_in (ci_rc sb lb (op i) (B i)) (ci_n ad i) (ci_n ad g))
def ci_Via (op B lab : Nat → Int32) (sb lb p sz : Nat) (ad via kd ky : Nat → Int32) (i : Nat) : Prop :=
  (via i = -1 ∧ ci_Dir op B lab sb lb p ad i) ∨ (¬ ci_kind (op i) (B i) = -4 ∧ (via i = -2 ∨ ∃ q, via i = nI q ∧ ci_Srv op B lab sb lb sz ad kd ky i q))
def ci_Nx (sz : Nat) (ad kd ky : Nat → Int32) (i : Nat) : Prop := ci_n ad (i + 1) = ci_n ad i + 1 ∨ (ci_n ad i + 1 < sz ∧ kd (ci_n ad i + 1) = -2 ∧ ky (ci_n ad i + 1) = nI (i + 1))
def ci_Inv (op B lab : Nat → Int32) (sb lb c p sz : Nat) (ad via kd ky : Nat → Int32) : Prop :=
  (∀ i, i < p → ad i = nI (ci_n ad i) ∧ ci_n ad i < sz ∧ kd (ci_n ad i) = nI i) ∧
  (∀ q, q < sz → ci_Cell c p q ad kd ky) ∧
  (∀ i, i < p → ci_Via op B lab sb lb p sz ad via kd ky i) ∧
  (∀ i, p ≤ i → i < 49 → via i = -1) ∧
  (∀ i, i + 1 < p → ¬ ci_stop (op i) → ci_Nx sz ad kd ky i)
/-- the last placed line is followed by a jump around, or stops -/
def ci_La (op : Nat → Int32) (p sz : Nat) (ad kd ky : Nat → Int32) : Prop := ∀ j, j + 1 = p → ¬ ci_stop (op j) → (ci_n ad j + 1 < sz ∧ kd (ci_n ad j + 1) = -2 ∧ ky (ci_n ad j + 1) = nI p)
def ci_L0 (p sz : Nat) (ad : Nat → Int32) : Prop := ∀ j, j + 1 = p → ci_n ad j + 1 = sz
theorem ci_n1 {x : Nat} (h : x < 2147483648) : ¬ nI x = -1 := by
  intro e
  have := congrArg Int32.toInt e
  rw [nI_toInt h, show (-1 : Int32).toInt = -1 from by decide] at this
  omega
theorem ci_n2 {x : Nat} (h : x < 2147483648) : ¬ nI x = -2 := by
  intro e
  have := congrArg Int32.toInt e
  rw [nI_toInt h, show (-2 : Int32).toInt = -2 from by decide] at this
  omega
theorem ci_n3 {x : Nat} (h : x < 2147483648) : ¬ nI x = -3 := by
  intro e
  have := congrArg Int32.toInt e
  rw [nI_toInt h, show (-3 : Int32).toInt = -3 from by decide] at this
  omega
theorem ci_n4 {x : Nat} (h : x < 2147483648) : ¬ nI x = -4 := by
  intro e
  have := congrArg Int32.toInt e
  rw [nI_toInt h, show (-4 : Int32).toInt = -4 from by decide] at this
  omega
section
variable {op B lab ad via kd ky : Nat → Int32} {sb lb c p sz : Nat}
theorem ci_InvPut {k y : Int32} (I : ci_Inv op B lab sb lb c p sz ad via kd ky) (h : k = -3 ∨ ((k = -1 ∨ k = -2) ∧ ∃ g, g ≤ c ∧ y = nI g)) : ci_Inv op B lab sb lb c p (sz + 1) ad via (upd kd sz k) (upd ky sz y) := by
  obtain ⟨i1, i2, i3, i4, i5⟩ := I
  refine ⟨fun i hi => ?_, fun q hq => ?_, fun i hi => ?_, i4, fun i hi hn => ?_⟩
  · obtain ⟨a, b, d⟩ := i1 i hi
    refine ⟨a, by omega, ?_⟩
    rw [pk_un (by omega)]
    exact d
  · by_cases e : q = sz
    · subst e
      unfold ci_Cell
      rw [pk_us, pk_us]
      rcases h with h | h
      · exact Or.inr (Or.inr h)
      · exact Or.inr (Or.inl h)
    · have := i2 q (by omega)
      unfold ci_Cell at this ⊢
      rw [pk_un e, pk_un e]
      exact this
  · rcases i3 i hi with v | ⟨v, w | ⟨q, w1, w2, w3, w4, w5⟩⟩
    · exact Or.inl v
    · exact Or.inr ⟨v, Or.inl w⟩
    · refine Or.inr ⟨v, Or.inr ⟨q, w1, by omega, ?_, ?_, w5⟩⟩
      · rw [pk_un (by omega)]; exact w3
      · rw [pk_un (by omega)]; exact w4
  · rcases i5 i hi hn with v | ⟨v, w1, w2⟩
    · exact Or.inl v
    · refine Or.inr ⟨by omega, ?_, ?_⟩
      · rw [pk_un (by omega)]; exact w1
      · rw [pk_un (by omega)]; exact w2
theorem ci_LaPut {k y : Int32} (h : ci_La op p sz ad kd ky) : ci_La op p (sz + 1) ad (upd kd sz k) (upd ky sz y) := by
  intro j hj hn
  obtain ⟨a, b, d⟩ := h j hj hn
  refine ⟨by omega, ?_, ?_⟩
  · rw [pk_un (by omega)]; exact b
  · rw [pk_un (by omega)]; exact d
theorem ci_InvVia {x : Nat} {v : Int32} (I : ci_Inv op B lab sb lb c p sz ad via kd ky) (hx : x < p) (h : (v = -1 ∧ ci_Dir op B lab sb lb p ad x) ∨ (¬ ci_kind (op x) (B x) = -4 ∧ (v = -2 ∨ ∃ q, v = nI q ∧ ci_Srv op B lab sb lb sz ad kd ky x q))) : ci_Inv op B lab sb lb c p sz ad (upd via x v) kd ky := by
  obtain ⟨i1, i2, i3, i4, i5⟩ := I
  refine ⟨i1, i2, fun i hi => ?_, fun i h1 h2 => ?_, i5⟩
  · by_cases e : i = x
    · subst e
      unfold ci_Via
      rw [pk_us]
      exact h
    · have := i3 i hi
      unfold ci_Via at this ⊢
      rw [pk_un e]
      exact this
  · rw [pk_un (by omega)]
    exact i4 i h1 h2
theorem ci_FtVia {x s : Nat} {v : Int32} (hv : ¬ v = -2) (F : ci_Ft op B ad via sb lb c s) : ci_Ft op B ad (upd via x v) sb lb c s := by
  intro i hi w
  by_cases e : i = x
  · subst e
    rw [pk_us] at w
    exact absurd w hv
  · rw [pk_un e] at w
    have h1 := F i hi w
    have h2 := ci_wcU (via := via) (x := x) hv i
    omega
theorem ci_FtMono {s s' : Nat} (h : s' ≤ s) (F : ci_Ft op B ad via sb lb c s) : ci_Ft op B ad via sb lb c s' := by
  intro i hi w
  have := F i hi w
  omega
/-- a put for the first waiting line x: all later cells keep their places -/
theorem ci_FtPut {x s : Nat} {v : Int32} (hv : ¬ v = -2) (hx : via x = -2) (hb : ∀ i, i < x → ¬ via i = -2) (F : ci_Ft op B ad via sb lb c s) : ci_Ft op B ad (upd via x v) sb lb c (s + 1) := by
  intro i hi w
  by_cases e : i = x
  · subst e
    rw [pk_us] at w
    exact absurd w hv
  · rw [pk_un e] at w
    have h1 := F i hi w
    by_cases l : i < x
    · exact absurd w (hb i l)
    · have h2 := ci_wcP (via := via) (x := x) hv hx i (by omega)
      omega
theorem ci_adU {z i : Nat} (h : i ≠ p) : ci_n (upd ad p (nI z)) i = ci_n ad i := by
  unfold ci_n
  rw [pk_un h]
theorem ci_adS {z : Nat} (h : z < 2147483648) : ci_n (upd ad p (nI z)) p = z := by
  unfold ci_n
  rw [pk_us]
  exact nI_clamp h
theorem ci_InvPlace {v : Int32} (hp : p < 49) (hz : sz < 192) (I : ci_Inv op B lab sb lb c p sz ad via kd ky) (L : ci_L0 p sz ad ∨ ci_La op p sz ad kd ky)
    (h : (v = -1 ∧ ci_kind (op p) (B p) = -4) ∨ (v = -2 ∧ ¬ ci_kind (op p) (B p) = -4)) : ci_Inv op B lab sb lb c (p + 1) (sz + 1) (upd ad p (nI sz)) (upd via p v) (upd kd sz (nI p)) (upd ky sz (nI p)) := by
  obtain ⟨i1, i2, i3, i4, i5⟩ := I
  have es : ci_n (upd ad p (nI sz)) p = sz := ci_adS (by omega)
  have eu : ∀ i, i < p → ci_n (upd ad p (nI sz)) i = ci_n ad i := fun i hi => ci_adU (by omega)
  refine ⟨fun i hi => ?_, fun q hq => ?_, fun i hi => ?_, fun i h1 h2 => ?_, fun i hi hn => ?_⟩
  · by_cases e : i = p
    · subst e
      rw [es, pk_us, pk_us]
      exact ⟨rfl, by omega, rfl⟩
    · obtain ⟨a, b, d⟩ := i1 i (by omega)
      rw [eu i (by omega), pk_un e, pk_un (show ci_n ad i ≠ sz by omega)]
      exact ⟨a, by omega, d⟩
  · by_cases e : q = sz
    · subst e
      exact Or.inl ⟨p, by omega, pk_us, es⟩
    · rcases i2 q (by omega) with ⟨i, h1, h2, h3⟩ | h1 | h1
      · refine Or.inl ⟨i, by omega, ?_, ?_⟩
        · rw [pk_un e]; exact h2
        · rw [eu i h1]; exact h3
      · refine Or.inr (Or.inl ?_)
        rw [pk_un e, pk_un e]
        exact h1
      · refine Or.inr (Or.inr ?_)
        rw [pk_un e]
        exact h1
  · by_cases e : i = p
    · subst e
      unfold ci_Via
      rw [pk_us]
      rcases h with ⟨h1, h2⟩ | ⟨h1, h2⟩
      · exact Or.inl ⟨h1, Or.inl h2⟩
      · exact Or.inr ⟨h2, Or.inl h1⟩
    · have hi' : i < p := by omega
      unfold ci_Via
      rw [pk_un e]
      rcases i3 i hi' with ⟨v1, v2⟩ | ⟨v1, w | ⟨q, w1, w2, w3, w4, w5⟩⟩
      · refine Or.inl ⟨v1, ?_⟩
        rcases v2 with v2 | ⟨v2, g, g1, g2, g3⟩
        · exact Or.inl v2
        · refine Or.inr ⟨v2, g, by omega, g2, ?_⟩
          rw [eu i hi', eu g g1]
          exact g3
      · exact Or.inr ⟨v1, Or.inl w⟩
      · refine Or.inr ⟨v1, Or.inr ⟨q, w1, by omega, ?_, ?_, ?_⟩⟩
        · rw [pk_un (by omega)]; exact w3
        · rw [pk_un (by omega)]; exact w4
        · rw [eu i hi']; exact w5
  · rw [pk_un (by omega)]
    exact i4 i (by omega) h2
  · unfold ci_Nx
    by_cases e : i + 1 = p
    · rw [e, es, eu i (by omega)]
      rcases L with L | L
      · exact Or.inl (L i e).symm
      · obtain ⟨a, b, d⟩ := L i e hn
        refine Or.inr ⟨by omega, ?_, ?_⟩
        · rw [pk_un (by omega)]; exact b
        · rw [pk_un (by omega)]; exact d
    · rw [eu i (by omega), eu (i + 1) (by omega)]
      rcases i5 i (by omega) hn with a | ⟨a, b, d⟩
      · exact Or.inl a
      · refine Or.inr ⟨by omega, ?_, ?_⟩
        · rw [pk_un (by omega)]; exact b
        · rw [pk_un (by omega)]; exact d
theorem ci_FtPlace {v : Int32} (hz : sz < 192) (hp : p ≤ c) (hw : ∀ i, p ≤ i → i < 49 → via i = -1) (hc : c ≤ 48) (F : ci_Ft op B ad via sb lb c (sz + 2)) (E : sz + 2 + ci_wc via (c + 1) ≤ sz + ci_rc sb lb (op p) (B p)) : ci_Ft op B (upd ad p (nI sz)) (upd via p v) sb lb c (sz + 2) := by
  intro i hi w
  by_cases e : i = p
  · subst e
    rw [ci_adS (by omega), ci_wcE (via' := via) i (fun j hj => pk_un (by omega))]
    have := ci_wcM (via := via) (a := i) (c + 1) (by omega)
    omega
  · rw [pk_un e] at w
    by_cases l : p < i
    · rw [hw i (by omega) (by omega)] at w
      exact absurd w (by decide)
    · rw [ci_adU e, ci_wcE (via' := via) i (fun j hj => pk_un (by omega))]
      exact F i hi w
theorem ci_wcPlace {v : Int32} (hp : p ≤ c) : ci_wc (upd via p v) (c + 1) ≤ ci_wc via (c + 1) + 1 := by
  have key : ∀ b, ci_wc (upd via p v) b ≤ ci_wc via b + 1 ∧ (b ≤ p → ci_wc (upd via p v) b ≤ ci_wc via b) := by
    intro b
    induction b with
    | zero => exact ⟨Nat.zero_le _, fun _ => Nat.le_refl _⟩
    | succ b ih =>
      have e1 : ci_wc (upd via p v) (b + 1) = ci_wc (upd via p v) b + (if upd via p v b = -2 then 1 else 0) := rfl
      have e2 : ci_wc via (b + 1) = ci_wc via b + (if via b = -2 then 1 else 0) := rfl
      by_cases e : b = p
      · subst e
        have := ih.2 (by omega)
        refine ⟨?_, fun h => absurd h (by omega)⟩
        have h1 : (if upd via b v b = -2 then 1 else 0) ≤ 1 := by split <;> omega
        rw [e1, e2]
        omega
      · rw [e1, e2, pk_un e]
        exact ⟨by omega, fun h => by have := ih.2 (by omega); omega⟩
  exact (key (c + 1)).1
end
end
section
/-! flush and place keep the invariant -/
theorem ci_kindVK {o b : Int32} (h : ¬ ci_kind o b = -4) : ci_kind o b = -3 ∨ ci_kind o b = -1 := by
  unfold ci_kind at h ⊢
  by_cases c1 : o = 7
  · rw [if_pos c1] at h ⊢
    by_cases c2 : b < -16
    · rw [if_pos c2]; exact Or.inl rfl
    · rw [if_neg c2] at h ⊢
      by_cases c3 : b ≤ 15
      · rw [if_pos c3] at h; exact absurd rfl h
      · rw [if_neg c3]; exact Or.inl rfl
  · rw [if_neg c1] at h ⊢
    by_cases c2 : o < 9
    · rw [if_pos c2] at h; exact absurd rfl h
    · rw [if_neg c2] at h ⊢
      by_cases c3 : 11 < o
      · rw [if_pos c3] at h; exact absurd rfl h
      · rw [if_neg c3]; exact Or.inr rfl
section
variable {f_HALT f_MOVE f_ADD f_SUB f_MUL f_LOAD f_STORE f_CONST f_JUMP f_BZ f_BN f_CALL f_RET f_POOL f_VENEER f_AROUND f_LITERAL f_DIRECT f_WAITING f_CELLS f_JUMP_BITS f_IMMEDIATE_BITS f_FAR f_capacity f_depth f_firstShortBits f_firstLoadBits f_literalRuns f_assembled : Int32} {a_lineOp a_lineA a_lineB a_labels a_addresses a_via a_cells a_kinds a_keys a_data a_stack a_held a_spot a_state : Nat → Int32} {c sb lb p M : Nat}
theorem ci_flush17 {post : SX → Prop} (hs : ci_W sb) (hl : ci_W lb) (hc : c ≤ 48) (hpc : p ≤ c + 1) (hM : M ≤ 190)
    (hk : ∀ i, i ≤ c → ci_kind (a_lineOp i) (a_lineB i) = -1 → ∃ g, g ≤ c ∧ ci_key a_labels (a_lineOp i) (a_lineB i) = nI g)
    (h : ∀ (sz : Nat) (via kd ky : Nat → Int32), ci_Inv a_lineOp a_lineB a_labels sb lb c p sz a_addresses via kd ky → (∀ i, i ≤ c → ¬ via i = -2) → sz ≤ M → ci_La a_lineOp p sz a_addresses kd ky → post (f_HALT, f_MOVE, f_ADD, f_SUB, f_MUL, f_LOAD, f_STORE, f_CONST, f_JUMP, f_BZ, f_BN, f_CALL, f_RET, f_POOL, f_VENEER, f_AROUND, f_LITERAL, f_DIRECT, f_WAITING, f_CELLS, f_JUMP_BITS, f_IMMEDIATE_BITS, f_FAR, f_capacity, f_depth, f_firstShortBits, f_firstLoadBits, nI sb, nI lb, nI c, nI sz, f_literalRuns, f_assembled, a_lineOp, a_lineA, a_lineB, a_labels, a_addresses, via, a_cells, kd, ky, a_data, a_stack, a_held, a_spot, a_state)) :
    ∀ (n x sz : Nat) (via kd ky : Nat → Int32), c + 1 < n + x → x ≤ c + 1 → ci_Inv a_lineOp a_lineB a_labels sb lb c p sz a_addresses via kd ky → (∀ i, i < x → ¬ via i = -2) → ci_Ft a_lineOp a_lineB a_addresses via sb lb c sz → sz + ci_wc via (c + 1) ≤ M → ci_La a_lineOp p sz a_addresses kd ky → wX_flush_17 post n (nI x) f_HALT f_MOVE f_ADD f_SUB f_MUL f_LOAD f_STORE f_CONST f_JUMP f_BZ f_BN f_CALL f_RET f_POOL f_VENEER f_AROUND f_LITERAL f_DIRECT f_WAITING f_CELLS f_JUMP_BITS f_IMMEDIATE_BITS f_FAR f_capacity f_depth f_firstShortBits f_firstLoadBits (nI sb) (nI lb) (nI c) (nI sz) f_literalRuns f_assembled a_lineOp a_lineA a_lineB a_labels a_addresses via a_cells kd ky a_data a_stack a_held a_spot a_state := by
  intro n
  induction n with
  | zero => intro x sz via kd ky h1 h2; omega
  | succ n ih =>
    intro x sz via kd ky hn hx I nb F hcnt L
    by_cases hxc : c < x
    · refine br_t (nI_lt hxc (by omega)) (h sz via kd ky I (fun i hi => nb i (by omega)) (by omega) L)
    · have ex : (nI x).toNatClampNeg = x := nI_clamp (by omega)
      have vx : vp_in (nI x) 49 := vp_in_nI (by omega) (by decide)
      refine br_f (nI_nlt (by omega) (by omega)) ⟨vx, br_c (fun c1 => ?_) (fun c1 => ?_)⟩
      · have w : via x = -2 := by rw [ex] at c1; exact c1
        have hxp : x < p := by
          by_cases l : x < p
          · exact l
          · have e := I.2.2.2.1 x (by omega) (by omega)
            rw [e] at w
            exact absurd w (by decide)
        have hkx : ¬ ci_kind (a_lineOp x) (a_lineB x) = -4 := by
          rcases I.2.2.1 x hxp with ⟨v, _⟩ | ⟨v, _⟩
          · rw [v] at w
            exact absurd w (by decide)
          · exact v
        obtain ⟨a1, a2, a3⟩ := I.1 x hxp
        have fx := F x (by omega) w
        have wx : ci_wc via x = 0 := ci_wc00 nb
        have wlt := ci_wcP (via := via) (x := x) (v := -1) (by decide) w (c + 1) (by omega)
        refine ci_find hs hl (by omega) a1 (by omega) (by omega) ?_ ?_
        · refine ⟨vx, nm_r (e' := upd via x (-2)) (by rw [ex]) ?_⟩
          refine ⟨vx, br_t (by rw [ex]; exact pk_us) ?_⟩
          refine ci_islandKind (by omega) ?_
          refine ci_keyOf (by omega) ?_
          refine ⟨vx, nm_r (e' := upd (upd via x (-2)) x (nI sz)) (by rw [ex]) ?_⟩
          refine ci_put (by omega) ?_
          refine nm_r (nI_1 x) ?_
          have hsz : ¬ nI sz = -2 := ci_n2 (by omega)
          have ev : upd (upd via x (-2)) x (nI sz) = upd via x (nI sz) := by
            funext j
            by_cases e : j = x
            · subst e; rw [pk_us, pk_us]
            · rw [pk_un e, pk_un e, pk_un e]
          rw [ev]
          refine ih (x + 1) (sz + 1) _ _ _ (by omega) (by omega) ?_ ?_ ?_ ?_ (ci_LaPut L)
          · refine ci_InvVia (ci_InvPut I ?_) hxp (Or.inr ⟨hkx, Or.inr ⟨sz, rfl, by omega, pk_us, pk_us, ?_⟩⟩)
            · rcases ci_kindVK hkx with k | k
              · exact Or.inl k
              · exact Or.inr ⟨Or.inl k, hk x (by omega) k⟩
            · unfold ci_in
              omega
          · intro i hi
            by_cases e : i = x
            · subst e; rw [pk_us]; exact hsz
            · rw [pk_un e]; exact nb i (by omega)
          · exact ci_FtPut hsz w nb F
          · have := ci_wcP (via := via) (x := x) hsz w (c + 1) (by omega)
            omega
        · intro q hq q1 q2 q3
          have hq2 : ¬ nI q = -2 := ci_n2 (by omega)
          refine ⟨vx, nm_r (e' := upd via x (nI q)) (by rw [ex]) ?_⟩
          refine ⟨vx, br_f (by rw [ex, pk_us]; exact hq2) (nm_r (nI_1 x) ?_)⟩
          refine ih (x + 1) sz _ _ _ (by omega) (by omega) ?_ ?_ ?_ ?_ L
          · exact ci_InvVia I hxp (Or.inr ⟨hkx, Or.inr ⟨q, rfl, hq, q1, q2, q3⟩⟩)
          · intro i hi
            by_cases e : i = x
            · subst e; rw [pk_us]; exact hq2
            · rw [pk_un e]; exact nb i (by omega)
          · exact ci_FtVia hq2 F
          · have := ci_wcU (via := via) (x := x) hq2 (c + 1)
            omega
      · have w : ¬ via x = -2 := by rw [ex] at c1; exact c1
        refine ⟨vx, br_f c1 (nm_r (nI_1 x) ?_)⟩
        refine ih (x + 1) sz via kd ky (by omega) (by omega) I ?_ F hcnt L
        intro i hi
        by_cases e : i = x
        · subst e; exact w
        · exact nb i (by omega)
theorem ci_flush {post : SX → Prop} {sz : Nat} (hs : ci_W sb) (hl : ci_W lb) (hc : c ≤ 48) (hpc : p ≤ c ∨ (p = c + 1 ∧ ci_stop (a_lineOp c))) (hM : M ≤ 190)
    (hk : ∀ i, i ≤ c → ci_kind (a_lineOp i) (a_lineB i) = -1 → ∃ g, g ≤ c ∧ ci_key a_labels (a_lineOp i) (a_lineB i) = nI g)
    (I : ci_Inv a_lineOp a_lineB a_labels sb lb c p sz a_addresses a_via a_kinds a_keys) (F : ci_Ft a_lineOp a_lineB a_addresses a_via sb lb c (sz + 1)) (hcnt : sz + 1 + ci_wc a_via (c + 1) ≤ M) (L : ci_L0 p sz a_addresses)
    (h : ∀ (sz : Nat) (via kd ky : Nat → Int32), ci_Inv a_lineOp a_lineB a_labels sb lb c p sz a_addresses via kd ky → (∀ i, i ≤ c → ¬ via i = -2) → sz ≤ M → ci_La a_lineOp p sz a_addresses kd ky → post (f_HALT, f_MOVE, f_ADD, f_SUB, f_MUL, f_LOAD, f_STORE, f_CONST, f_JUMP, f_BZ, f_BN, f_CALL, f_RET, f_POOL, f_VENEER, f_AROUND, f_LITERAL, f_DIRECT, f_WAITING, f_CELLS, f_JUMP_BITS, f_IMMEDIATE_BITS, f_FAR, f_capacity, f_depth, f_firstShortBits, f_firstLoadBits, nI sb, nI lb, nI c, nI sz, f_literalRuns, f_assembled, a_lineOp, a_lineA, a_lineB, a_labels, a_addresses, via, a_cells, kd, ky, a_data, a_stack, a_held, a_spot, a_state)) : wpX_flush post (f_HALT, f_MOVE, f_ADD, f_SUB, f_MUL, f_LOAD, f_STORE, f_CONST, f_JUMP, f_BZ, f_BN, f_CALL, f_RET, f_POOL, f_VENEER, f_AROUND, f_LITERAL, f_DIRECT, f_WAITING, f_CELLS, f_JUMP_BITS, f_IMMEDIATE_BITS, f_FAR, f_capacity, f_depth, f_firstShortBits, f_firstLoadBits, nI sb, nI lb, nI c, nI sz, f_literalRuns, f_assembled, a_lineOp, a_lineA, a_lineB, a_labels, a_addresses, a_via, a_cells, a_kinds, a_keys, a_data, a_stack, a_held, a_spot, a_state) (nI p) := by
  unfold wpX_flush
  refine ci_afterStop (by omega) (fun ns => ?_) (fun j hj st => ?_)
  · have hp : p ≤ c := by
      rcases hpc with hpc | ⟨e, st⟩
      · exact hpc
      · exact absurd st (ns c e.symm)
    refine br_t rfl ?_
    refine ci_put (by omega) ?_
    refine ⟨c + 2, ci_flush17 hs hl hc (by omega) hM hk h (c + 2) 0 (sz + 1) _ _ _ (by omega) (by omega) ?_ (fun i hi => absurd hi (by omega)) F hcnt ?_⟩
    · exact ci_InvPut I (Or.inr ⟨Or.inr rfl, p, hp, rfl⟩)
    · intro j hj _
      have e := L j hj
      refine ⟨by omega, ?_, ?_⟩
      · rw [e]; exact pk_us
      · rw [e]; exact pk_us
  · refine br_f (by decide) ?_
    refine ⟨c + 2, ci_flush17 hs hl hc (by omega) hM hk h (c + 2) 0 sz _ _ _ (by omega) (by omega) I (fun i hi => absurd hi (by omega)) (ci_FtMono (by omega) F) (by omega) ?_⟩
    intro i hi hn
    have e : i = j := by omega
    rw [e] at hn
    exact absurd st hn
end
section
variable {f_HALT f_MOVE f_ADD f_SUB f_MUL f_LOAD f_STORE f_CONST f_JUMP f_BZ f_BN f_CALL f_RET f_POOL f_VENEER f_AROUND f_LITERAL f_DIRECT f_WAITING f_CELLS f_JUMP_BITS f_IMMEDIATE_BITS f_FAR f_capacity f_depth f_firstShortBits f_firstLoadBits f_literalRuns f_assembled : Int32} {a_lineOp a_lineA a_lineB a_labels a_addresses a_via a_cells a_kinds a_keys a_data a_stack a_held a_spot a_state : Nat → Int32} {c sb lb p sz M : Nat}
theorem ci_place40 {post : SX → Prop} (hs : ci_W sb) (hl : ci_W lb) (hc : c ≤ 48) (hpc : p ≤ c) (hz : sz ≤ 192)
    (hk : ∀ i, i ≤ c → ci_kind (a_lineOp i) (a_lineB i) = -1 → ∃ g, g ≤ c ∧ ci_key a_labels (a_lineOp i) (a_lineB i) = nI g)
    (h : ∀ (via : Nat → Int32), ci_Inv a_lineOp a_lineB a_labels sb lb c (p + 1) sz a_addresses via a_kinds a_keys → ci_Ft a_lineOp a_lineB a_addresses via sb lb c (sz + 1) → sz + ci_wc via (c + 1) ≤ M → post (f_HALT, f_MOVE, f_ADD, f_SUB, f_MUL, f_LOAD, f_STORE, f_CONST, f_JUMP, f_BZ, f_BN, f_CALL, f_RET, f_POOL, f_VENEER, f_AROUND, f_LITERAL, f_DIRECT, f_WAITING, f_CELLS, f_JUMP_BITS, f_IMMEDIATE_BITS, f_FAR, f_capacity, f_depth, f_firstShortBits, f_firstLoadBits, nI sb, nI lb, nI c, nI sz, f_literalRuns, f_assembled, a_lineOp, a_lineA, a_lineB, a_labels, a_addresses, via, a_cells, a_kinds, a_keys, a_data, a_stack, a_held, a_spot, a_state)) :
    ∀ (n x : Nat) (via : Nat → Int32), p + 1 < n + x → x ≤ p + 1 → ci_Inv a_lineOp a_lineB a_labels sb lb c (p + 1) sz a_addresses via a_kinds a_keys → ci_Ft a_lineOp a_lineB a_addresses via sb lb c (sz + 1) → sz + ci_wc via (c + 1) ≤ M → wX_place_40 post (nI p) f_HALT f_MOVE f_ADD f_SUB f_MUL f_LOAD f_STORE f_CONST f_JUMP f_BZ f_BN f_CALL f_RET f_POOL f_VENEER f_AROUND f_LITERAL f_DIRECT f_WAITING f_CELLS f_JUMP_BITS f_IMMEDIATE_BITS f_FAR f_capacity f_depth f_firstShortBits f_firstLoadBits (nI sb) (nI lb) (nI c) (nI sz) f_literalRuns f_assembled n (nI x) a_lineOp a_lineA a_lineB a_labels a_addresses via a_cells a_kinds a_keys a_data a_stack a_held a_spot a_state := by
  intro n
  induction n with
  | zero => intro x via h1 h2; omega
  | succ n ih =>
    intro x via hn hx I F hcnt
    by_cases hxp : p < x
    · have ep : (nI p).toNatClampNeg = p := nI_clamp (by omega)
      have vx : vp_in (nI p) 49 := vp_in_nI (by omega) (by decide)
      refine br_t (nI_lt hxp (by omega)) ⟨vx, br_c (fun c1 => ?_) (fun c1 => h via I F hcnt)⟩
      rw [ep] at c1
      obtain ⟨a1, a2, a3⟩ := I.1 p (by omega)
      have hkx : ¬ ci_kind (a_lineOp p) (a_lineB p) = -4 := by
        rcases I.2.2.1 p (by omega) with ⟨v, _⟩ | ⟨v, _⟩
        · rw [v] at c1
          exact absurd c1 (by decide)
        · exact v
      refine ci_find hs hl (by omega) a1 (by omega) hz ?_ ?_
      · refine ⟨vx, nm_r (e' := upd via p (-2)) (by rw [ep]) ?_⟩
        have ev : upd via p (-2) = via := by
          funext j
          by_cases e : j = p
          · subst e; rw [pk_us, c1]
          · rw [pk_un e]
        rw [ev]
        exact h via I F hcnt
      · intro q hq q1 q2 q3
        have hq2 : ¬ nI q = -2 := ci_n2 (by omega)
        refine ⟨vx, nm_r (e' := upd via p (nI q)) (by rw [ep]) ?_⟩
        refine h _ (ci_InvVia I (by omega) (Or.inr ⟨hkx, Or.inr ⟨q, rfl, hq, q1, q2, q3⟩⟩)) (ci_FtVia hq2 F) ?_
        have := ci_wcU (via := via) (x := p) hq2 (c + 1)
        omega
    · have ex : (nI x).toNatClampNeg = x := nI_clamp (by omega)
      have vx : vp_in (nI x) 49 := vp_in_nI (by omega) (by decide)
      refine br_f (nI_nlt (by omega) (by omega)) ⟨vx, br_c (fun c1 => ?_) (fun c1 => nm_r (nI_1 x) (ih (x + 1) via (by omega) (by omega) I F hcnt))⟩
      rw [ex] at c1
      obtain ⟨a1, a2, a3⟩ := I.1 x (by omega)
      refine ci_seesGoal hs hl hc (by omega) a1 (by omega) hpc (hk x (by omega)) (fun g hg => ⟨(I.1 g (by omega)).1, by have := (I.1 g (by omega)).2.1; omega⟩) ?_ ?_
      · exact br_t rfl (nm_r (nI_1 x) (ih (x + 1) via (by omega) (by omega) I F hcnt))
      · intro g k1 k2 k3 k4
        refine br_f (by decide) ⟨vx, nm_r (e' := upd via x (-1)) (by rw [ex]) (nm_r (nI_1 x) ?_)⟩
        refine ih (x + 1) _ (by omega) (by omega) (ci_InvVia I (by omega) (Or.inl ⟨rfl, Or.inr ⟨k1, g, by omega, k3, k4⟩⟩)) (ci_FtVia (by decide) F) ?_
        have := ci_wcU (via := via) (x := x) (v := -1) (by decide) (c + 1)
        omega
theorem ci_place {post : SX → Prop} (hs : ci_W sb) (hl : ci_W lb) (hc : c ≤ 48) (hpc : p ≤ c) (hz : sz < 192)
    (hk : ∀ i, i ≤ c → ci_kind (a_lineOp i) (a_lineB i) = -1 → ∃ g, g ≤ c ∧ ci_key a_labels (a_lineOp i) (a_lineB i) = nI g)
    (I : ci_Inv a_lineOp a_lineB a_labels sb lb c p sz a_addresses a_via a_kinds a_keys) (L : ci_L0 p sz a_addresses ∨ ci_La a_lineOp p sz a_addresses a_kinds a_keys)
    (F : ci_Ft a_lineOp a_lineB a_addresses a_via sb lb c (sz + 2)) (E : sz + 2 + ci_wc a_via (c + 1) ≤ sz + ci_rc sb lb (a_lineOp p) (a_lineB p)) (hcnt : sz + ci_wc a_via (c + 1) + 2 ≤ M)
    (h : ∀ (via : Nat → Int32), ci_Inv a_lineOp a_lineB a_labels sb lb c (p + 1) (sz + 1) (upd a_addresses p (nI sz)) via (upd a_kinds sz (nI p)) (upd a_keys sz (nI p)) → ci_Ft a_lineOp a_lineB (upd a_addresses p (nI sz)) via sb lb c (sz + 1 + 1) → sz + 1 + ci_wc via (c + 1) ≤ M → post (f_HALT, f_MOVE, f_ADD, f_SUB, f_MUL, f_LOAD, f_STORE, f_CONST, f_JUMP, f_BZ, f_BN, f_CALL, f_RET, f_POOL, f_VENEER, f_AROUND, f_LITERAL, f_DIRECT, f_WAITING, f_CELLS, f_JUMP_BITS, f_IMMEDIATE_BITS, f_FAR, f_capacity, f_depth, f_firstShortBits, f_firstLoadBits, nI sb, nI lb, nI c, nI (sz + 1), f_literalRuns, f_assembled, a_lineOp, a_lineA, a_lineB, a_labels, upd a_addresses p (nI sz), via, a_cells, upd a_kinds sz (nI p), upd a_keys sz (nI p), a_data, a_stack, a_held, a_spot, a_state)) : wpX_place post (f_HALT, f_MOVE, f_ADD, f_SUB, f_MUL, f_LOAD, f_STORE, f_CONST, f_JUMP, f_BZ, f_BN, f_CALL, f_RET, f_POOL, f_VENEER, f_AROUND, f_LITERAL, f_DIRECT, f_WAITING, f_CELLS, f_JUMP_BITS, f_IMMEDIATE_BITS, f_FAR, f_capacity, f_depth, f_firstShortBits, f_firstLoadBits, nI sb, nI lb, nI c, nI sz, f_literalRuns, f_assembled, a_lineOp, a_lineA, a_lineB, a_labels, a_addresses, a_via, a_cells, a_kinds, a_keys, a_data, a_stack, a_held, a_spot, a_state) (nI p) := by
  have ep : (nI p).toNatClampNeg = p := nI_clamp (by omega)
  have vp : vp_in (nI p) 49 := vp_in_nI (by omega) (by decide)
  have nw := I.2.2.2.1
  unfold wpX_place
  refine ⟨vp, nm_r (e' := upd a_addresses p (nI sz)) (by rw [ep]) ?_⟩
  refine ci_put hz ?_
  refine ci_islandKind (by omega) ?_
  refine br_c (fun k => ⟨vp, nm_r (e' := upd a_via p (-1)) (by rw [ep]) ?_⟩) (fun k => ⟨vp, nm_r (e' := upd a_via p (-2)) (by rw [ep]) ?_⟩)
  · refine ⟨p + 2, ci_place40 hs hl hc hpc (by omega) hk h (p + 2) 0 _ (by omega) (by omega) (ci_InvPlace (by omega) hz I L (Or.inl ⟨rfl, k⟩)) (ci_FtPlace hz hpc nw hc F E) ?_⟩
    have := ci_wcPlace (via := a_via) (v := -1) hpc
    omega
  · refine ⟨p + 2, ci_place40 hs hl hc hpc (by omega) hk h (p + 2) 0 _ (by omega) (by omega) (ci_InvPlace (by omega) hz I L (Or.inr ⟨rfl, k⟩)) (ci_FtPlace hz hpc nw hc F E) ?_⟩
    have := ci_wcPlace (via := a_via) (v := -2) hpc
    omega
end
end
section
/-! words of the cells -/
def ci_Ln (o a b : Int32) : Prop := (∃ n, n ≤ 12 ∧ o = nI n) ∧ (∃ n, n < 8 ∧ a = nI n) ∧ (¬ o = 7 → ¬ ci_T o → ∃ n, n < 8 ∧ b = nI n) ∧ (ci_T o → ∃ n, n < 16 ∧ b = nI n)
def ci_Prog (op A B lab : Nat → Int32) (c : Nat) : Prop := c ≤ 48 ∧ (∀ i, i ≤ c → ci_Ln (op i) (A i) (B i)) ∧ (∀ i, i ≤ c → ci_T (op i) → ∃ g, g ≤ c ∧ ci_key lab (op i) (B i) = nI g) ∧ op c = 0
theorem ci_kT {o b : Int32} (h : ci_kind o b = -1) : ci_T o ∧ ¬ o = 8 ∧ ¬ o = 7 := by
  unfold ci_kind at h
  by_cases c1 : o = 7
  · rw [if_pos c1] at h
    by_cases c2 : b < -16
    · rw [if_pos c2] at h; exact absurd h (by decide)
    · rw [if_neg c2] at h
      by_cases c3 : b ≤ 15
      · rw [if_pos c3] at h; exact absurd h (by decide)
      · rw [if_neg c3] at h; exact absurd h (by decide)
  · rw [if_neg c1] at h
    by_cases c2 : o < 9
    · rw [if_pos c2] at h; exact absurd h (by decide)
    · rw [if_neg c2] at h
      by_cases c3 : 11 < o
      · rw [if_pos c3] at h; exact absurd h (by decide)
      · refine ⟨⟨Int32.le_trans (by decide) (Int32.not_lt.mp c2), Int32.not_lt.mp c3⟩, fun e => c2 (by rw [e]; decide), c1⟩
theorem ci_kL {o b : Int32} (h : ci_kind o b = -3) : o = 7 := by
  unfold ci_kind at h
  by_cases c1 : o = 7
  · exact c1
  · rw [if_neg c1] at h
    by_cases c2 : o < 9
    · rw [if_pos c2] at h; exact absurd h (by decide)
    · rw [if_neg c2] at h
      by_cases c3 : 11 < o
      · rw [if_pos c3] at h; exact absurd h (by decide)
      · rw [if_neg c3] at h; exact absurd h (by decide)
theorem ci_kN {o b : Int32} (h : ci_kind o b = -4) (e : o = 7) : -16 ≤ b.toInt ∧ b.toInt < 16 := by
  unfold ci_kind at h
  rw [if_pos e] at h
  by_cases c2 : b < -16
  · rw [if_pos c2] at h; exact absurd h (by decide)
  · rw [if_neg c2] at h
    by_cases c3 : b ≤ 15
    · rw [Int32.lt_iff_toInt_lt, show (-16 : Int32).toInt = -16 from by decide] at c2
      rw [Int32.le_iff_toInt_le, show (15 : Int32).toInt = 15 from by decide] at c3
      omega
    · rw [if_neg c3] at h; exact absurd h (by decide)
theorem ci_T7 {o : Int32} (h : ci_T o) : ¬ o = 7 := by
  intro e
  rw [e] at h
  exact absurd h.1 (by decide)
theorem ci_k8 {o b : Int32} (h : ci_kind o b = -4) (t : ci_T o) : o = 8 := by
  unfold ci_kind at h
  rw [if_neg (ci_T7 t)] at h
  by_cases c2 : o < 9
  · obtain ⟨t1, t2⟩ := t
    apply Int32.toInt_inj.mp
    rw [Int32.le_iff_toInt_le] at t1
    rw [Int32.lt_iff_toInt_lt, show (9 : Int32).toInt = 9 from by decide] at c2
    rw [show (8 : Int32).toInt = 8 from by decide] at t1 ⊢
    omega
  · rw [if_neg c2, if_neg (Int32.not_lt.mpr t.2)] at h
    exact absurd h (by decide)
/-- the word w of line i at address q -/
def ci_EL (op A B lab : Nat → Int32) (sb lb c sz : Nat) (ad kd ky : Nat → Int32) (i q : Nat) (w : Int32) : Prop :=
  (w >>> ((4 : Int32) &&& 31)) &&& 7 = A i ∧
  ((¬ op i = 7 ∧ ¬ ci_T (op i) ∧ w &&& 15 = op i ∧ (w >>> ((7 : Int32) &&& 31)) &&& 7 = B i) ∨
   (op i = 7 ∧ w &&& 15 = 7 ∧ ci_sg w 5 = B i) ∨
   (op i = 7 ∧ w &&& 15 = 13 ∧ ∃ t, t < sz ∧ nI q + ci_sg w (nI lb) = nI t ∧ kd t = -3 ∧ ky t = B i) ∨
   (ci_T (op i) ∧ w &&& 15 = op i ∧ ∃ t g, t < sz ∧ g ≤ c ∧ ci_key lab (op i) (B i) = nI g ∧ nI q + ci_sg w (nI (ci_wd sb lb (op i))) = nI t ∧ ((kd t = nI g ∧ ad g = nI t) ∨ (kd t = -1 ∧ ky t = nI g))))
def ci_EW (op A B lab : Nat → Int32) (sb lb c sz : Nat) (ad kd ky : Nat → Int32) (q : Nat) (w : Int32) : Prop :=
  (kd q = -3 → w = ky q) ∧ (∀ g, g ≤ c → (kd q = -1 ∨ kd q = -2) → ky q = nI g → nI q + ci_sg w 10 = ad g) ∧ (∀ i, i ≤ c → kd q = nI i → ci_EL op A B lab sb lb c sz ad kd ky i q w)
theorem ci_back (a t : Nat) : nI a + (nI t - nI a) = nI t := by
  rw [Int32.add_comm, Int32.sub_add_cancel]
theorem ci_dist {a t r w : Nat} (hr : r = 2 ^ (w - 1) - 1) (ha : a < 1048576) (ht : t < 1048576) (h : ci_in r a t) : -((2 ^ (w - 1) : Nat) : Int) ≤ (nI t - nI a).toInt ∧ (nI t - nI a).toInt < ((2 ^ (w - 1) : Nat) : Int) := by
  have hp : 0 < 2 ^ (w - 1) := Nat.two_pow_pos _
  unfold ci_in at h
  rw [pk_sub_toInt (by omega) (by omega)]
  generalize 2 ^ (w - 1) = P at *
  omega
section
variable {f_HALT f_MOVE f_ADD f_SUB f_MUL f_LOAD f_STORE f_CONST f_JUMP f_BZ f_BN f_CALL f_RET f_POOL f_VENEER f_AROUND f_LITERAL f_DIRECT f_WAITING f_CELLS f_JUMP_BITS f_IMMEDIATE_BITS f_FAR f_capacity f_depth f_firstShortBits f_firstLoadBits f_literalRuns f_assembled : Int32} {a_lineOp a_lineA a_lineB a_labels a_addresses a_via a_cells a_kinds a_keys a_data a_stack a_held a_spot a_state : Nat → Int32} {c sb lb sz : Nat}
theorem ci_enc76 {post : Int32 → Prop} {i : Nat} {t x3 : Int32} (hc : c ≤ 48) (hi : i < 49)
    (ht : (a_via i < 0 ∧ ∃ g, g ≤ c ∧ ci_key a_labels (a_lineOp i) (a_lineB i) = nI g ∧ a_addresses g = t) ∨ (¬ a_via i < 0 ∧ a_via i = t))
    (h : ∀ z, (a_lineOp i = 7 → z = 13) → (¬ a_lineOp i = 7 → z = a_lineOp i) → post ((z ||| x3) ||| ci_fd (t - a_addresses i) (nI (ci_wd sb lb (a_lineOp i))))) : wX_encodeLine_76 post (nI i) (a_lineOp i) x3 f_HALT f_MOVE f_ADD f_SUB f_MUL f_LOAD f_STORE f_CONST f_JUMP f_BZ f_BN f_CALL f_RET f_POOL f_VENEER f_AROUND f_LITERAL f_DIRECT f_WAITING f_CELLS f_JUMP_BITS f_IMMEDIATE_BITS f_FAR f_capacity f_depth f_firstShortBits f_firstLoadBits (nI sb) (nI lb) (nI c) (nI sz) f_literalRuns f_assembled a_lineOp a_lineA a_lineB a_labels a_addresses a_via a_cells a_kinds a_keys a_data a_stack a_held a_spot a_state := by
  have ei : (nI i).toNatClampNeg = i := nI_clamp (by omega)
  have vi : vp_in (nI i) 49 := vp_in_nI hi (by decide)
  have K : wX_encodeLine_114 post (nI i) (a_lineOp i) x3 (nI (ci_wd sb lb (a_lineOp i))) t f_HALT f_MOVE f_ADD f_SUB f_MUL f_LOAD f_STORE f_CONST f_JUMP f_BZ f_BN f_CALL f_RET f_POOL f_VENEER f_AROUND f_LITERAL f_DIRECT f_WAITING f_CELLS f_JUMP_BITS f_IMMEDIATE_BITS f_FAR f_capacity f_depth f_firstShortBits f_firstLoadBits (nI sb) (nI lb) (nI c) (nI sz) f_literalRuns f_assembled a_lineOp a_lineA a_lineB a_labels a_addresses a_via a_cells a_kinds a_keys a_data a_stack a_held a_spot a_state := by
    refine ⟨vi, nm_r (e' := t - a_addresses i) (by rw [ei]) ?_⟩
    exact br_c (fun e => h 13 (fun _ => rfl) (fun n => absurd e n)) (fun e => h _ (fun n => absurd n e) (fun _ => rfl))
  unfold wX_encodeLine_76
  refine ci_keyOf hi ?_
  refine ci_widthOf ?_
  refine ⟨vi, ?_⟩
  rw [ei]
  rcases ht with ⟨h1, g, h2, h3, h4⟩ | ⟨h1, h2⟩
  · refine br_t h1 ?_
    rw [h3]
    refine ci_addressOf hc h2 ?_
    rw [h4]
    exact K
  · refine br_f h1 ⟨vi, ?_⟩
    rw [h2]
    exact K
theorem ci_neg1 {x : Int32} (h : x = -1) : x < 0 := by rw [h]; decide
theorem ci_encodeLine {post : Int32 → Prop} {i q : Nat} (hs : ci_W sb) (hl : ci_W lb) (hz : sz ≤ 192) (P : ci_Prog a_lineOp a_lineA a_lineB a_labels c) (hi : i ≤ c) (I : ci_Inv a_lineOp a_lineB a_labels sb lb c (c + 1) sz a_addresses a_via a_kinds a_keys) (nw : ∀ i, i ≤ c → ¬ a_via i = -2) (eq : ci_n a_addresses i = q)
    (h : ∀ w, ci_EL a_lineOp a_lineA a_lineB a_labels sb lb c sz a_addresses a_kinds a_keys i q w → post w) : wpX_encodeLine post (f_HALT, f_MOVE, f_ADD, f_SUB, f_MUL, f_LOAD, f_STORE, f_CONST, f_JUMP, f_BZ, f_BN, f_CALL, f_RET, f_POOL, f_VENEER, f_AROUND, f_LITERAL, f_DIRECT, f_WAITING, f_CELLS, f_JUMP_BITS, f_IMMEDIATE_BITS, f_FAR, f_capacity, f_depth, f_firstShortBits, f_firstLoadBits, nI sb, nI lb, nI c, nI sz, f_literalRuns, f_assembled, a_lineOp, a_lineA, a_lineB, a_labels, a_addresses, a_via, a_cells, a_kinds, a_keys, a_data, a_stack, a_held, a_spot, a_state) (nI i) := by
  obtain ⟨hc, hL, hT, _⟩ := P
  have ei : (nI i).toNatClampNeg = i := nI_clamp (by omega)
  have vi : vp_in (nI i) 49 := vp_in_nI (by omega) (by decide)
  obtain ⟨⟨o, ho, eo⟩, ⟨a, ha, ea⟩, lb1, lb2⟩ := hL i hi
  obtain ⟨a1, a2, a3⟩ := I.1 i (by omega)
  rw [eq] at a1 a2 a3
  unfold wpX_encodeLine
  refine ⟨vi, nm_r (e' := a_lineOp i) (by rw [ei]) ⟨vi, nm_r (e' := nI a <<< ((4 : Int32) &&& 31)) (by rw [ei, ea]) ?_⟩⟩
  by_cases c7 : a_lineOp i = 7
  · refine br_t c7 (br_t c7 ?_)
    have o7 : nI o = nI 7 := eo.symm.trans c7
    refine ci_islandKind (by omega) ?_
    refine br_c (fun k => ⟨vi, ?_⟩) (fun k => ?_)
    · rw [ei]
      obtain ⟨b1, b2⟩ := ci_kN k c7
      have E := ci_enc (k := 5) (o := 7) (a := a) (v := a_lineB i) (by unfold ci_K; omega) (by omega) ha (by omega) (by omega)
      refine h _ ?_
      rw [c7]
      exact ⟨E.2.1.trans ea.symm, Or.inr (Or.inl ⟨c7, E.1, E.2.2⟩)⟩
    · rcases I.2.2.1 i (by omega) with ⟨_, v | v⟩ | ⟨_, v | ⟨t, v1, v2, v3, v4, v5⟩⟩
      · exact absurd v k
      · exact absurd c7 (ci_kT v.1).2.2
      · exact absurd v (nw i hi)
      · refine ci_enc76 hc (by omega) (t := nI t) (Or.inr ⟨by rw [v1]; exact nI_pos (by omega), v1⟩) (fun z z1 _ => h _ ?_)
        rw [z1 c7, a1]
        have k3 : ci_kind (a_lineOp i) (a_lineB i) = -3 := by
          rcases ci_kindVK k with k3 | k3
          · exact k3
          · exact absurd c7 (ci_kT k3).2.2
        have ew : ci_wd sb lb (a_lineOp i) = lb := by
          unfold ci_wd
          rw [c7, if_neg (by decide), if_pos rfl]
        have er : ci_rc sb lb (a_lineOp i) (a_lineB i) = 2 ^ (lb - 1) - 1 := by
          unfold ci_rc
          rw [if_neg k, ew]
        rw [eq] at v5
        obtain ⟨d1, d2⟩ := ci_dist er (by omega) (by omega) v5
        rw [ew]
        have E := ci_enc (k := lb) (o := 13) (a := a) (v := nI t - nI q) (by have := ci_wdK hs hl (a_lineOp i); rw [ew] at this; exact this) (by omega) ha d1 d2
        refine ⟨E.2.1.trans ea.symm, Or.inr (Or.inr (Or.inl ⟨c7, E.1, t, v2, ?_, v3.trans k3, ?_⟩))⟩
        · have := congrArg (fun z => nI q + z) E.2.2
          exact this.trans (ci_back q t)
        · rw [v4]
          unfold ci_key
          rw [if_pos c7]
  · refine br_f c7 ?_
    refine ci_isT (fun nt => ?_) (fun ht => ?_)
    · refine br_t rfl ⟨vi, ?_⟩
      rw [ei]
      obtain ⟨b, hb, eb⟩ := lb1 c7 nt
      refine h _ ?_
      have E := ci_encP (o := o) (a := a) (b := b) (by omega) ha hb
      refine ⟨?_, Or.inl ⟨c7, nt, ?_, ?_⟩⟩
      · rw [eo, eb, ea]; exact E.2.1
      · rw [eo, eb]; exact E.1
      · rw [eo, eb]; exact E.2.2
    · refine br_f (by decide) (br_f c7 ?_)
      obtain ⟨g, hg, eg⟩ := hT i hi ht
      obtain ⟨g1, g2, g3⟩ := I.1 g (by omega)
      have K := ci_wdK hs hl (a_lineOp i)
      have fin : ∀ t, t < sz → -((2 ^ (ci_wd sb lb (a_lineOp i) - 1) : Nat) : Int) ≤ (nI t - nI q).toInt ∧ (nI t - nI q).toInt < ((2 ^ (ci_wd sb lb (a_lineOp i) - 1) : Nat) : Int) → ((a_kinds t = nI g ∧ a_addresses g = nI t) ∨ (a_kinds t = -1 ∧ a_keys t = nI g)) → ∀ z, (a_lineOp i = 7 → z = 13) → (¬ a_lineOp i = 7 → z = a_lineOp i) → post ((z ||| nI a <<< ((4 : Int32) &&& 31)) ||| ci_fd (nI t - a_addresses i) (nI (ci_wd sb lb (a_lineOp i)))) := by
        intro t ht1 hd hk z _ z2
        refine h _ ?_
        rw [z2 c7, a1]
        have E := ci_enc (k := ci_wd sb lb (a_lineOp i)) (o := o) (a := a) (v := nI t - nI q) K (by omega) ha hd.1 hd.2
        rw [← eo] at E
        refine ⟨E.2.1.trans ea.symm, Or.inr (Or.inr (Or.inr ⟨ht, E.1, t, g, ht1, hg, eg, ?_, hk⟩))⟩
        have := congrArg (fun z => nI q + z) E.2.2
        exact this.trans (ci_back q t)
      rcases I.2.2.1 i (by omega) with ⟨v0, v | ⟨v1, g', v2, v3, v4⟩⟩ | ⟨v0, v | ⟨t, v1, v2, v3, v4, v5⟩⟩
      · refine ci_enc76 hc (by omega) (t := nI (ci_n a_addresses g)) (Or.inl ⟨ci_neg1 v0, g, hg, eg, g1⟩) (fin (ci_n a_addresses g) g2 ?_ (Or.inl ⟨g3, g1⟩))
        have ew : ci_wd sb lb (a_lineOp i) = 10 := by
          unfold ci_wd
          rw [ci_k8 v ht, if_pos rfl]
        rw [ew, pk_sub_toInt (by omega) (by omega)]
        omega
      · have e : g' = g := (nI_eq (by omega) (by omega)).mp (v3.symm.trans eg)
        subst e
        refine ci_enc76 hc (by omega) (t := nI (ci_n a_addresses g')) (Or.inl ⟨ci_neg1 v0, g', hg, eg, g1⟩) (fin (ci_n a_addresses g') g2 ?_ (Or.inl ⟨g3, g1⟩))
        rw [eq] at v4
        refine ci_dist ?_ (by omega) (by omega) v4
        unfold ci_rc
        rw [if_neg (by rw [v1]; decide)]
      · exact absurd v (nw i hi)
      · refine ci_enc76 hc (by omega) (t := nI t) (Or.inr ⟨by rw [v1]; exact nI_pos (by omega), v1⟩) (fin t v2 ?_ (Or.inr ?_))
        · rw [eq] at v5
          refine ci_dist ?_ (by omega) (by omega) v5
          unfold ci_rc
          rw [if_neg v0]
        · have k1 : ci_kind (a_lineOp i) (a_lineB i) = -1 := by
            rcases ci_kindVK v0 with k | k
            · exact absurd (ci_kL k) c7
            · exact k
          exact ⟨v3.trans k1, v4.trans eg⟩
theorem ci_encode {post : Int32 → Prop} {q : Nat} (hs : ci_W sb) (hl : ci_W lb) (hz : sz ≤ 192) (P : ci_Prog a_lineOp a_lineA a_lineB a_labels c) (I : ci_Inv a_lineOp a_lineB a_labels sb lb c (c + 1) sz a_addresses a_via a_kinds a_keys) (nw : ∀ i, i ≤ c → ¬ a_via i = -2) (hq : q < sz)
    (h : ∀ w, ci_EW a_lineOp a_lineA a_lineB a_labels sb lb c sz a_addresses a_kinds a_keys q w → post w) : wpX_encode post (f_HALT, f_MOVE, f_ADD, f_SUB, f_MUL, f_LOAD, f_STORE, f_CONST, f_JUMP, f_BZ, f_BN, f_CALL, f_RET, f_POOL, f_VENEER, f_AROUND, f_LITERAL, f_DIRECT, f_WAITING, f_CELLS, f_JUMP_BITS, f_IMMEDIATE_BITS, f_FAR, f_capacity, f_depth, f_firstShortBits, f_firstLoadBits, nI sb, nI lb, nI c, nI sz, f_literalRuns, f_assembled, a_lineOp, a_lineA, a_lineB, a_labels, a_addresses, a_via, a_cells, a_kinds, a_keys, a_data, a_stack, a_held, a_spot, a_state) (nI q) := by
  have eq : (nI q).toNatClampNeg = q := nI_clamp (by omega)
  have vq : vp_in (nI q) 192 := vp_in_nI (by omega) (by decide)
  have hc := P.1
  unfold wpX_encode
  refine ⟨vq, ?_⟩
  rw [eq]
  rcases I.2.1 q hq with ⟨i, i1, i2, i3⟩ | ⟨k, g, g1, g2⟩ | k
  · have n3 : ¬ a_kinds q = -3 := by rw [i2]; exact ci_n3 (by omega)
    have n0 : ¬ a_kinds q < 0 := by rw [i2]; exact nI_pos (by omega)
    refine br_f n3 ⟨vq, br_f n0 ⟨vq, ?_⟩⟩
    rw [i2]
    refine ci_encodeLine hs hl hz P (by omega) I nw i3 (fun w hw => h w ⟨fun e => absurd e n3, fun g _ e => ?_, fun j hj ej => ?_⟩)
    · rcases e with e | e
      · exact absurd e (by rw [i2]; exact ci_n1 (by omega))
      · exact absurd e (by rw [i2]; exact ci_n2 (by omega))
    · have e : j = i := (nI_eq (by omega) (by omega)).mp (ej.symm.trans i2)
      rw [e]
      exact hw
  · have n3 : ¬ a_kinds q = -3 := by
      rcases k with k | k
      · rw [k]; decide
      · rw [k]; decide
    have n0 : a_kinds q < 0 := by
      rcases k with k | k
      · rw [k]; decide
      · rw [k]; decide
    have nn : ∀ j, j ≤ c → ¬ a_kinds q = nI j := by
      intro j hj e
      rw [e] at n0
      exact absurd n0 (nI_pos (by omega))
    refine br_f n3 ⟨vq, br_t n0 ⟨vq, ?_⟩⟩
    rw [g2]
    refine ci_addressOf hc g1 ?_
    refine nm_e ?_
    obtain ⟨d1, d2, d3⟩ := I.1 g (by omega)
    refine h _ ⟨fun e => absurd e n3, fun g' g1' _ e => ?_, fun j hj ej => absurd ej (nn j hj)⟩
    have e2 : g' = g := (nI_eq (by omega) (by omega)).mp (e.symm.trans g2)
    rw [e2, d1]
    have E := ci_encJ (v := nI (ci_n a_addresses g) - nI q) (by rw [pk_sub_toInt (by omega) (by omega)]; omega) (by rw [pk_sub_toInt (by omega) (by omega)]; omega)
    have := congrArg (fun z => nI q + z) E
    exact this.trans (ci_back q _)
  · have nn : ∀ j, j ≤ c → ¬ a_kinds q = nI j := by
      intro j hj e
      exact absurd (e.symm.trans k) (ci_n3 (by omega))
    refine br_t k ⟨vq, h _ ⟨fun _ => rfl, fun g _ e => ?_, fun j hj ej => absurd ej (nn j hj)⟩⟩
    rcases e with e | e
    · exact absurd (k.symm.trans e) (by decide)
    · exact absurd (k.symm.trans e) (by decide)
end
end
section
/-! build ends in a good layout -/
def ci_Land (k : Int32) (c sz : Nat) (ad cl kd : Nat → Int32) (t g : Nat) : Prop := t < sz ∧ g ≤ c ∧ ((kd t = nI g ∧ ad g = nI t) ∨ (kd t = k ∧ nI t + ci_sg (cl t) 10 = ad g))
def ci_Img (op A B lab : Nat → Int32) (sb lb c sz : Nat) (ad cl kd : Nat → Int32) (i q : Nat) : Prop :=
  (cl q >>> ((4 : Int32) &&& 31)) &&& 7 = A i ∧
  ((¬ op i = 7 ∧ ¬ ci_T (op i) ∧ cl q &&& 15 = op i ∧ (cl q >>> ((7 : Int32) &&& 31)) &&& 7 = B i) ∨
   (op i = 7 ∧ cl q &&& 15 = 7 ∧ ci_sg (cl q) 5 = B i) ∨
   (op i = 7 ∧ cl q &&& 15 = 13 ∧ ∃ t, t < sz ∧ nI q + ci_sg (cl q) (nI lb) = nI t ∧ cl t = B i) ∨
   (ci_T (op i) ∧ cl q &&& 15 = op i ∧ ∃ t g, ci_key lab (op i) (B i) = nI g ∧ nI q + ci_sg (cl q) (nI (ci_wd sb lb (op i))) = nI t ∧ ci_Land (-1) c sz ad cl kd t g))
/-- what the image is to its readers -/
def ci_Lay (op A B lab : Nat → Int32) (sb lb c sz : Nat) (ad cl kd : Nat → Int32) : Prop :=
  sz ≤ 192 ∧ ∀ i, i ≤ c → ∃ q, q < sz ∧ ad i = nI q ∧ kd q = nI i ∧ ci_Img op A B lab sb lb c sz ad cl kd i q ∧ (¬ ci_stop (op i) → i < c ∧ ci_Land (-2) c sz ad cl kd (q + 1) (i + 1))
theorem ci_LayOf {op A B lab ad via kd ky cl : Nat → Int32} {sb lb c sz : Nat} (hz : sz ≤ 192) (P : ci_Prog op A B lab c) (I : ci_Inv op B lab sb lb c (c + 1) sz ad via kd ky)
    (E : ∀ q, q < sz → ci_EW op A B lab sb lb c sz ad kd ky q (cl q)) : ci_Lay op A B lab sb lb c sz ad cl kd := by
  obtain ⟨hc, hL, hT, h0⟩ := P
  refine ⟨hz, fun i hi => ?_⟩
  obtain ⟨a1, a2, a3⟩ := I.1 i (by omega)
  refine ⟨ci_n ad i, a2, a1, a3, ?_, fun ns => ?_⟩
  · obtain ⟨e1, e2⟩ := (E _ a2).2.2 i hi a3
    refine ⟨e1, ?_⟩
    rcases e2 with e | e | ⟨e3, e4, t, t1, t2, t3, t4⟩ | ⟨e3, e4, t, g, t1, g1, g2, t2, t3⟩
    · exact Or.inl e
    · exact Or.inr (Or.inl e)
    · refine Or.inr (Or.inr (Or.inl ⟨e3, e4, t, t1, t2, ?_⟩))
      rw [(E t t1).1 t3]
      exact t4
    · refine Or.inr (Or.inr (Or.inr ⟨e3, e4, t, g, g2, t2, t1, g1, ?_⟩))
      rcases t3 with t3 | ⟨t3, t4⟩
      · exact Or.inl t3
      · exact Or.inr ⟨t3, (E t t1).2.1 g g1 (Or.inl t3) t4⟩
  · have hic : i < c := by
      by_cases l : i < c
      · exact l
      · have e : i = c := by omega
        rw [e, h0] at ns
        exact absurd (Or.inl rfl) ns
    obtain ⟨b1, b2, b3⟩ := I.1 (i + 1) (by omega)
    refine ⟨hic, ?_⟩
    rcases I.2.2.2.2 i (by omega) ns with n | ⟨n1, n2, n3⟩
    · rw [n] at b1 b2 b3
      exact ⟨b2, by omega, Or.inl ⟨b3, b1⟩⟩
    · exact ⟨n1, by omega, Or.inr ⟨n2, (E _ n1).2.1 (i + 1) (by omega) (Or.inr n2) n3⟩⟩
section
variable {f_HALT f_MOVE f_ADD f_SUB f_MUL f_LOAD f_STORE f_CONST f_JUMP f_BZ f_BN f_CALL f_RET f_POOL f_VENEER f_AROUND f_LITERAL f_DIRECT f_WAITING f_CELLS f_JUMP_BITS f_IMMEDIATE_BITS f_FAR f_capacity f_depth f_firstShortBits f_firstLoadBits f_literalRuns f_assembled : Int32} {a_lineOp a_lineA a_lineB a_labels a_addresses a_via a_cells a_kinds a_keys a_data a_stack a_held a_spot a_state : Nat → Int32} {c sb lb sz : Nat}
theorem ci_build72 {post : SX → Prop} (hs : ci_W sb) (hl : ci_W lb) (hz : sz ≤ 192) (P : ci_Prog a_lineOp a_lineA a_lineB a_labels c) (I : ci_Inv a_lineOp a_lineB a_labels sb lb c (c + 1) sz a_addresses a_via a_kinds a_keys) (nw : ∀ i, i ≤ c → ¬ a_via i = -2)
    (h : ∀ cl : Nat → Int32, (∀ q, q < sz → ci_EW a_lineOp a_lineA a_lineB a_labels sb lb c sz a_addresses a_kinds a_keys q (cl q)) → post (f_HALT, f_MOVE, f_ADD, f_SUB, f_MUL, f_LOAD, f_STORE, f_CONST, f_JUMP, f_BZ, f_BN, f_CALL, f_RET, f_POOL, f_VENEER, f_AROUND, f_LITERAL, f_DIRECT, f_WAITING, f_CELLS, f_JUMP_BITS, f_IMMEDIATE_BITS, f_FAR, f_capacity, f_depth, f_firstShortBits, f_firstLoadBits, nI sb, nI lb, nI c, nI sz, f_literalRuns, f_assembled, a_lineOp, a_lineA, a_lineB, a_labels, a_addresses, a_via, cl, a_kinds, a_keys, a_data, a_stack, a_held, a_spot, a_state)) :
    ∀ (n x : Nat) (cl : Nat → Int32), sz < n + x → x ≤ sz → (∀ q, q < x → ci_EW a_lineOp a_lineA a_lineB a_labels sb lb c sz a_addresses a_kinds a_keys q (cl q)) → wX_build_72 post f_HALT f_MOVE f_ADD f_SUB f_MUL f_LOAD f_STORE f_CONST f_JUMP f_BZ f_BN f_CALL f_RET f_POOL f_VENEER f_AROUND f_LITERAL f_DIRECT f_WAITING f_CELLS f_JUMP_BITS f_IMMEDIATE_BITS f_FAR f_capacity f_depth f_firstShortBits f_firstLoadBits (nI sb) (nI lb) (nI c) (nI sz) f_literalRuns f_assembled n (nI x) a_lineOp a_lineA a_lineB a_labels a_addresses a_via cl a_kinds a_keys a_data a_stack a_held a_spot a_state := by
  intro n
  induction n with
  | zero => intro x cl h1 h2; omega
  | succ n ih =>
    intro x cl hn hx F
    by_cases hxs : sz ≤ x
    · exact br_t (nI_le hxs (by omega)) (h cl (fun q hq => F q (by omega)))
    · have ex : (nI x).toNatClampNeg = x := nI_clamp (by omega)
      have vx : vp_in (nI x) 192 := vp_in_nI (by omega) (by decide)
      refine br_f (nI_ge (by omega) (by omega)) ?_
      refine ci_encode hs hl hz P I nw (by omega) (fun w hw => ?_)
      refine ⟨vx, nm_r (e' := upd cl x w) (by rw [ex]) (nm_r (nI_1 x) ?_)⟩
      refine ih (x + 1) _ (by omega) (by omega) (fun q hq => ?_)
      by_cases e : q = x
      · subst e
        rw [pk_us]
        exact hw
      · rw [pk_un e]
        exact F q (by omega)
theorem ci_build49 {post : SX → Prop} {p : Nat} {J : Int32 → Int32 → Int32 → Int32 → Int32 → Int32 → Int32 → Int32 → Int32 → Int32 → Int32 → Int32 → Int32 → Int32 → Int32 → Int32 → Int32 → Int32 → Int32 → Int32 → Int32 → Int32 → Int32 → Int32 → Int32 → Int32 → Int32 → Int32 → Int32 → Int32 → Int32 → Int32 → Int32 → Int32 → (Nat → Int32) → (Nat → Int32) → (Nat → Int32) → (Nat → Int32) → (Nat → Int32) → (Nat → Int32) → (Nat → Int32) → (Nat → Int32) → (Nat → Int32) → (Nat → Int32) → (Nat → Int32) → (Nat → Int32) → (Nat → Int32) → (Nat → Int32) → Prop} (hs : ci_W sb) (hl : ci_W lb) (hc : c ≤ 48) (hpc : p ≤ c) (hz : sz < 192)
    (hk : ∀ i, i ≤ c → ci_kind (a_lineOp i) (a_lineB i) = -1 → ∃ g, g ≤ c ∧ ci_key a_labels (a_lineOp i) (a_lineB i) = nI g)
    (I : ci_Inv a_lineOp a_lineB a_labels sb lb c p sz a_addresses a_via a_kinds a_keys) (L : ci_L0 p sz a_addresses ∨ ci_La a_lineOp p sz a_addresses a_kinds a_keys)
    (F : ci_Ft a_lineOp a_lineB a_addresses a_via sb lb c (sz + 2)) (E : sz + 2 + ci_wc a_via (c + 1) ≤ sz + ci_rc sb lb (a_lineOp p) (a_lineB p)) (hcnt : sz + ci_wc a_via (c + 1) + 2 ≤ 3 * (p + 1))
    (h : ∀ (sz : Nat) (ad via kd ky : Nat → Int32), ci_Inv a_lineOp a_lineB a_labels sb lb c (p + 1) sz ad via kd ky → ci_Ft a_lineOp a_lineB ad via sb lb c (sz + 1) → sz + ci_wc via (c + 1) ≤ 3 * (p + 1) → ci_L0 (p + 1) sz ad → J (nI (p + 1)) f_HALT f_MOVE f_ADD f_SUB f_MUL f_LOAD f_STORE f_CONST f_JUMP f_BZ f_BN f_CALL f_RET f_POOL f_VENEER f_AROUND f_LITERAL f_DIRECT f_WAITING f_CELLS f_JUMP_BITS f_IMMEDIATE_BITS f_FAR f_capacity f_depth f_firstShortBits f_firstLoadBits (nI sb) (nI lb) (nI c) (nI sz) f_literalRuns f_assembled a_lineOp a_lineA a_lineB a_labels ad via a_cells kd ky a_data a_stack a_held a_spot a_state) : wX_build_49 post J (nI p) f_HALT f_MOVE f_ADD f_SUB f_MUL f_LOAD f_STORE f_CONST f_JUMP f_BZ f_BN f_CALL f_RET f_POOL f_VENEER f_AROUND f_LITERAL f_DIRECT f_WAITING f_CELLS f_JUMP_BITS f_IMMEDIATE_BITS f_FAR f_capacity f_depth f_firstShortBits f_firstLoadBits (nI sb) (nI lb) (nI c) (nI sz) f_literalRuns f_assembled a_lineOp a_lineA a_lineB a_labels a_addresses a_via a_cells a_kinds a_keys a_data a_stack a_held a_spot a_state := by
  unfold wX_build_49
  refine ci_place (M := 3 * (p + 1)) hs hl hc hpc hz hk I L F E hcnt (fun via I2 F2 c2 => ?_)
  refine nm_r (nI_1 p) ?_
  refine h (sz + 1) _ _ _ _ I2 F2 c2 ?_
  intro j hj
  have e : j = p := by omega
  rw [e, ci_adS (by omega)]
theorem ci_build28 {post : SX → Prop} (hs : ci_W sb) (hl : ci_W lb) (P : ci_Prog a_lineOp a_lineA a_lineB a_labels c)
    (h : ∀ (sz : Nat) (ad via cl kd ky : Nat → Int32), ci_Lay a_lineOp a_lineA a_lineB a_labels sb lb c sz ad cl kd → post (f_HALT, f_MOVE, f_ADD, f_SUB, f_MUL, f_LOAD, f_STORE, f_CONST, f_JUMP, f_BZ, f_BN, f_CALL, f_RET, f_POOL, f_VENEER, f_AROUND, f_LITERAL, f_DIRECT, f_WAITING, f_CELLS, f_JUMP_BITS, f_IMMEDIATE_BITS, f_FAR, f_capacity, f_depth, f_firstShortBits, f_firstLoadBits, nI sb, nI lb, nI c, nI sz, f_literalRuns, f_assembled, a_lineOp, a_lineA, a_lineB, a_labels, ad, via, cl, kd, ky, a_data, a_stack, a_held, a_spot, a_state)) :
    ∀ (n x sz : Nat) (ad via kd ky : Nat → Int32), c + 1 < n + x → x ≤ c + 1 → ci_Inv a_lineOp a_lineB a_labels sb lb c x sz ad via kd ky → ci_Ft a_lineOp a_lineB ad via sb lb c (sz + 1) → sz + ci_wc via (c + 1) ≤ 3 * x → ci_L0 x sz ad → wX_build_28 post n (nI x) f_HALT f_MOVE f_ADD f_SUB f_MUL f_LOAD f_STORE f_CONST f_JUMP f_BZ f_BN f_CALL f_RET f_POOL f_VENEER f_AROUND f_LITERAL f_DIRECT f_WAITING f_CELLS f_JUMP_BITS f_IMMEDIATE_BITS f_FAR f_capacity f_depth f_firstShortBits f_firstLoadBits (nI sb) (nI lb) (nI c) (nI sz) f_literalRuns f_assembled a_lineOp a_lineA a_lineB a_labels ad via a_cells kd ky a_data a_stack a_held a_spot a_state := by
  have hc := P.1
  have hk : ∀ i, i ≤ c → ci_kind (a_lineOp i) (a_lineB i) = -1 → ∃ g, g ≤ c ∧ ci_key a_labels (a_lineOp i) (a_lineB i) = nI g := fun i hi k => P.2.2.1 i hi (ci_kT k).1
  intro n
  induction n with
  | zero => intro x sz ad via kd ky h1 h2; omega
  | succ n ih =>
    intro x sz ad via kd ky hn hx I F hcnt L
    by_cases hxc : c < x
    · have e : x = c + 1 := by omega
      subst e
      refine br_t (nI_lt hxc (by omega)) ?_
      rw [nI_1 c]
      refine ci_flush (M := 148) hs hl hc (Or.inr ⟨rfl, Or.inl P.2.2.2⟩) (by decide) hk I F (by omega) L (fun sz via kd ky I2 nw hz _ => ?_)
      exact ⟨sz + 1, ci_build72 hs hl (by omega) P I2 nw (fun cl E => h sz ad via cl kd ky (ci_LayOf (by omega) P I2 E)) (sz + 1) 0 _ (by omega) (by omega) (fun q hq => absurd hq (by omega))⟩
    · have hA : ∀ i, i ≤ c → via i = -2 → ad i = nI (ci_n ad i) ∧ ci_n ad i < 1048576 := by
        intro i hi w
        by_cases l : i < x
        · obtain ⟨a1, a2, a3⟩ := I.1 i l
          exact ⟨a1, by omega⟩
        · rw [I.2.2.2.1 i (by omega) (by omega)] at w
          exact absurd w (by decide)
      refine br_f (nI_nlt (by omega) (by omega)) ?_
      refine ci_mustFlush hs hl hc (by omega) (by omega) hA ?_ ?_
      · refine br_f (by decide) ?_
        refine ci_flush (M := 3 * x + 1) hs hl hc (Or.inl (by omega)) (by omega) hk I F (by omega) L (fun sz via kd ky I2 nw hz La => ?_)
        have w0 : ci_wc via (c + 1) = 0 := ci_wc00 (fun i hi => nw i (by omega))
        have hr := ci_rcGe hs hl (a_lineOp x) (a_lineB x)
        refine ci_build49 hs hl hc (by omega) (by omega) hk I2 (Or.inr La) (fun i hi w => absurd w (nw i hi)) (by omega) (by omega) (fun sz ad via kd ky I3 F3 c3 L3 => ?_)
        exact ih (x + 1) sz ad via kd ky (by omega) (by omega) I3 F3 c3 L3
      · intro F2 E2
        refine br_t rfl ?_
        refine ci_build49 hs hl hc (by omega) (by omega) hk I (Or.inl L) F2 E2 (by omega) (fun sz ad via kd ky I3 F3 c3 L3 => ?_)
        exact ih (x + 1) sz ad via kd ky (by omega) (by omega) I3 F3 c3 L3
theorem ci_build7 {post : SX → Prop} (hs : ci_W sb) (hl : ci_W lb) (P : ci_Prog a_lineOp a_lineA a_lineB a_labels c)
    (h : ∀ (sz : Nat) (ad via cl kd ky : Nat → Int32), ci_Lay a_lineOp a_lineA a_lineB a_labels sb lb c sz ad cl kd → post (f_HALT, f_MOVE, f_ADD, f_SUB, f_MUL, f_LOAD, f_STORE, f_CONST, f_JUMP, f_BZ, f_BN, f_CALL, f_RET, f_POOL, f_VENEER, f_AROUND, f_LITERAL, f_DIRECT, f_WAITING, f_CELLS, f_JUMP_BITS, f_IMMEDIATE_BITS, f_FAR, f_capacity, f_depth, f_firstShortBits, f_firstLoadBits, nI sb, nI lb, nI c, nI sz, f_literalRuns, f_assembled, a_lineOp, a_lineA, a_lineB, a_labels, ad, via, cl, kd, ky, a_data, a_stack, a_held, a_spot, a_state)) :
    ∀ (n x : Nat) (via : Nat → Int32), 49 < n + x → x ≤ 49 → (∀ i, i < x → via i = -1) → wX_build_7 post f_HALT f_MOVE f_ADD f_SUB f_MUL f_LOAD f_STORE f_CONST f_JUMP f_BZ f_BN f_CALL f_RET f_POOL f_VENEER f_AROUND f_LITERAL f_DIRECT f_WAITING f_CELLS f_JUMP_BITS f_IMMEDIATE_BITS f_FAR f_capacity f_depth f_firstShortBits f_firstLoadBits (nI sb) (nI lb) (nI c) 0 f_literalRuns f_assembled n (nI x) a_lineOp a_lineA a_lineB a_labels a_addresses via a_cells a_kinds a_keys a_data a_stack a_held a_spot a_state := by
  intro n
  induction n with
  | zero => intro x via h1 h2; omega
  | succ n ih =>
    intro x via hn hx V
    by_cases hx9 : 49 ≤ x
    · refine br_t (nI_le (a := 49) hx9 (by omega)) ⟨c + 2, ?_⟩
      refine ci_build28 hs hl P h (c + 2) 0 0 _ _ _ _ (by omega) (by omega) ?_ ?_ ?_ ?_
      · exact ⟨fun i hi => absurd hi (by omega), fun q hq => absurd hq (by omega), fun i hi => absurd hi (by omega), fun i _ hi => V i (by omega), fun i hi => absurd hi (by omega)⟩
      · intro i hi w
        have := P.1
        rw [V i (by omega)] at w
        exact absurd w (by decide)
      · have := P.1
        rw [ci_wc00 (fun i hi => by rw [V i (by omega)]; decide)]
        omega
      · intro j hj
        omega
    · have ex : (nI x).toNatClampNeg = x := nI_clamp (by omega)
      have vx : vp_in (nI x) 49 := vp_in_nI (by omega) (by decide)
      refine br_f (nI_ge (b := 49) (by omega) (by omega)) ⟨vx, nm_r (e' := upd via x (-1)) (by rw [ex]) (nm_r (nI_1 x) ?_)⟩
      refine ih (x + 1) _ (by omega) (by omega) (fun i hi => ?_)
      by_cases e : i = x
      · subst e; exact pk_us
      · rw [pk_un e]; exact V i (by omega)
end
section
variable {f_HALT f_MOVE f_ADD f_SUB f_MUL f_LOAD f_STORE f_CONST f_JUMP f_BZ f_BN f_CALL f_RET f_POOL f_VENEER f_AROUND f_LITERAL f_DIRECT f_WAITING f_CELLS f_JUMP_BITS f_IMMEDIATE_BITS f_FAR f_capacity f_depth f_firstShortBits f_firstLoadBits f_shortBits f_loadBits f_count f_size f_literalRuns f_assembled : Int32} {a_lineOp a_lineA a_lineB a_labels a_addresses a_via a_cells a_kinds a_keys a_data a_stack a_held a_spot a_state : Nat → Int32} {c sb lb : Nat}
theorem ci_build {post : SX → Prop} (hs : ci_W sb) (hl : ci_W lb) (P : ci_Prog a_lineOp a_lineA a_lineB a_labels c)
    (h : ∀ (sz : Nat) (ad via cl kd ky : Nat → Int32), ci_Lay a_lineOp a_lineA a_lineB a_labels sb lb c sz ad cl kd → post (f_HALT, f_MOVE, f_ADD, f_SUB, f_MUL, f_LOAD, f_STORE, f_CONST, f_JUMP, f_BZ, f_BN, f_CALL, f_RET, f_POOL, f_VENEER, f_AROUND, f_LITERAL, f_DIRECT, f_WAITING, f_CELLS, f_JUMP_BITS, f_IMMEDIATE_BITS, f_FAR, f_capacity, f_depth, f_firstShortBits, f_firstLoadBits, nI sb, nI lb, nI c, nI sz, f_literalRuns, f_assembled, a_lineOp, a_lineA, a_lineB, a_labels, ad, via, cl, kd, ky, a_data, a_stack, a_held, a_spot, a_state)) : wpX_build post (f_HALT, f_MOVE, f_ADD, f_SUB, f_MUL, f_LOAD, f_STORE, f_CONST, f_JUMP, f_BZ, f_BN, f_CALL, f_RET, f_POOL, f_VENEER, f_AROUND, f_LITERAL, f_DIRECT, f_WAITING, f_CELLS, f_JUMP_BITS, f_IMMEDIATE_BITS, f_FAR, f_capacity, f_depth, f_firstShortBits, f_firstLoadBits, nI sb, nI lb, nI c, f_size, f_literalRuns, f_assembled, a_lineOp, a_lineA, a_lineB, a_labels, a_addresses, a_via, a_cells, a_kinds, a_keys, a_data, a_stack, a_held, a_spot, a_state) :=
  ⟨50, ci_build7 hs hl P h 50 0 _ (by omega) (by omega) (fun i hi => absurd hi (by omega))⟩
end
end
section
/-! reading the image -/
section
variable {f_HALT f_MOVE f_ADD f_SUB f_MUL f_LOAD f_STORE f_CONST f_JUMP f_BZ f_BN f_CALL f_RET f_POOL f_VENEER f_AROUND f_LITERAL f_DIRECT f_WAITING f_CELLS f_JUMP_BITS f_IMMEDIATE_BITS f_FAR f_capacity f_depth f_firstShortBits f_firstLoadBits f_literalRuns f_assembled : Int32} {a_lineOp a_lineA a_lineB a_labels a_addresses a_via a_cells a_kinds a_keys a_data a_stack a_held a_spot a_state : Nat → Int32} {c sb lb sz : Nat}
theorem ci_kindAt {post : Int32 → Prop} {t : Nat} (hz : sz ≤ 192) (ht : t < sz) (h : post (a_kinds t)) : wpX_kindAt post (f_HALT, f_MOVE, f_ADD, f_SUB, f_MUL, f_LOAD, f_STORE, f_CONST, f_JUMP, f_BZ, f_BN, f_CALL, f_RET, f_POOL, f_VENEER, f_AROUND, f_LITERAL, f_DIRECT, f_WAITING, f_CELLS, f_JUMP_BITS, f_IMMEDIATE_BITS, f_FAR, f_capacity, f_depth, f_firstShortBits, f_firstLoadBits, nI sb, nI lb, nI c, nI sz, f_literalRuns, f_assembled, a_lineOp, a_lineA, a_lineB, a_labels, a_addresses, a_via, a_cells, a_kinds, a_keys, a_data, a_stack, a_held, a_spot, a_state) (nI t) := by
  have et : (nI t).toNatClampNeg = t := nI_clamp (by omega)
  refine br_f (nI_pos (by omega)) (br_t (nI_lt ht (by omega)) ⟨vp_in_nI (by omega) (by decide), ?_⟩)
  rw [et]
  exact h
theorem ci_cellAt {post : Int32 → Prop} {t : Nat} (hz : sz ≤ 192) (ht : t < sz) (h : post (a_cells t)) : wpX_cellAt post (f_HALT, f_MOVE, f_ADD, f_SUB, f_MUL, f_LOAD, f_STORE, f_CONST, f_JUMP, f_BZ, f_BN, f_CALL, f_RET, f_POOL, f_VENEER, f_AROUND, f_LITERAL, f_DIRECT, f_WAITING, f_CELLS, f_JUMP_BITS, f_IMMEDIATE_BITS, f_FAR, f_capacity, f_depth, f_firstShortBits, f_firstLoadBits, nI sb, nI lb, nI c, nI sz, f_literalRuns, f_assembled, a_lineOp, a_lineA, a_lineB, a_labels, a_addresses, a_via, a_cells, a_kinds, a_keys, a_data, a_stack, a_held, a_spot, a_state) (nI t) := by
  have et : (nI t).toNatClampNeg = t := nI_clamp (by omega)
  refine br_f (nI_pos (by omega)) (br_t (nI_lt ht (by omega)) ⟨vp_in_nI (by omega) (by decide), ?_⟩)
  rw [et]
  exact h
theorem ci_standing1 {post : Int32 → Prop} {t : Nat} (hz : sz ≤ 192) (ht : t < sz) (es : a_spot 1 = nI t) (h : post (a_kinds t)) : wpX_standing post (f_HALT, f_MOVE, f_ADD, f_SUB, f_MUL, f_LOAD, f_STORE, f_CONST, f_JUMP, f_BZ, f_BN, f_CALL, f_RET, f_POOL, f_VENEER, f_AROUND, f_LITERAL, f_DIRECT, f_WAITING, f_CELLS, f_JUMP_BITS, f_IMMEDIATE_BITS, f_FAR, f_capacity, f_depth, f_firstShortBits, f_firstLoadBits, nI sb, nI lb, nI c, nI sz, f_literalRuns, f_assembled, a_lineOp, a_lineA, a_lineB, a_labels, a_addresses, a_via, a_cells, a_kinds, a_keys, a_data, a_stack, a_held, a_spot, a_state) 1 := by
  unfold wpX_standing
  refine br_f (by decide) ?_
  rw [es]
  exact ci_kindAt hz ht h
theorem ci_standing0 {post : Int32 → Prop} (h : post (a_spot 0)) : wpX_standing post (f_HALT, f_MOVE, f_ADD, f_SUB, f_MUL, f_LOAD, f_STORE, f_CONST, f_JUMP, f_BZ, f_BN, f_CALL, f_RET, f_POOL, f_VENEER, f_AROUND, f_LITERAL, f_DIRECT, f_WAITING, f_CELLS, f_JUMP_BITS, f_IMMEDIATE_BITS, f_FAR, f_capacity, f_depth, f_firstShortBits, f_firstLoadBits, nI sb, nI lb, nI c, nI sz, f_literalRuns, f_assembled, a_lineOp, a_lineA, a_lineB, a_labels, a_addresses, a_via, a_cells, a_kinds, a_keys, a_data, a_stack, a_held, a_spot, a_state) 0 := br_t rfl h
theorem ci_signed {post : Int32 → Prop} {w k : Int32} (h : post (ci_sg w k)) : wpX_signed post (f_HALT, f_MOVE, f_ADD, f_SUB, f_MUL, f_LOAD, f_STORE, f_CONST, f_JUMP, f_BZ, f_BN, f_CALL, f_RET, f_POOL, f_VENEER, f_AROUND, f_LITERAL, f_DIRECT, f_WAITING, f_CELLS, f_JUMP_BITS, f_IMMEDIATE_BITS, f_FAR, f_capacity, f_depth, f_firstShortBits, f_firstLoadBits, nI sb, nI lb, nI c, nI sz, f_literalRuns, f_assembled, a_lineOp, a_lineA, a_lineB, a_labels, a_addresses, a_via, a_cells, a_kinds, a_keys, a_data, a_stack, a_held, a_spot, a_state) w k := h
theorem ci_wd13 {sb lb : Nat} : ci_wd sb lb 13 = lb := by
  unfold ci_wd
  rw [if_neg (by decide), if_neg (by decide), if_pos rfl]
theorem ci_o13 {n : Nat} (h : n ≤ 12) : ¬ nI n = 13 := by
  intro e
  have e2 : nI n = nI 13 := e
  rw [nI_eq (by omega) (by omega)] at e2
  omega
theorem ci_nT13 : ¬ ci_T 13 := fun h => absurd h.2 (by decide)
theorem ci_nT7 : ¬ ci_T 7 := fun h => absurd h.1 (by decide)
theorem ci_operandAt {post : Int32 → Prop} {i q : Nat} (hz : sz ≤ 192) (hq : q < sz) (hn : ¬ a_lineOp i = 13) (hI : ci_Img a_lineOp a_lineA a_lineB a_labels sb lb c sz a_addresses a_cells a_kinds i q)
    (h1 : ¬ ci_T (a_lineOp i) → post (a_lineB i)) (h2 : ∀ t g, ci_T (a_lineOp i) → ci_key a_labels (a_lineOp i) (a_lineB i) = nI g → ci_Land (-1) c sz a_addresses a_cells a_kinds t g → post (nI t)) : wpX_operandAt post (f_HALT, f_MOVE, f_ADD, f_SUB, f_MUL, f_LOAD, f_STORE, f_CONST, f_JUMP, f_BZ, f_BN, f_CALL, f_RET, f_POOL, f_VENEER, f_AROUND, f_LITERAL, f_DIRECT, f_WAITING, f_CELLS, f_JUMP_BITS, f_IMMEDIATE_BITS, f_FAR, f_capacity, f_depth, f_firstShortBits, f_firstLoadBits, nI sb, nI lb, nI c, nI sz, f_literalRuns, f_assembled, a_lineOp, a_lineA, a_lineB, a_labels, a_addresses, a_via, a_cells, a_kinds, a_keys, a_data, a_stack, a_held, a_spot, a_state) (nI q) := by
  unfold wpX_operandAt
  refine ci_cellAt hz hq ?_
  rcases hI.2 with ⟨e1, e2, e3, e4⟩ | ⟨e1, e2, e3⟩ | ⟨e1, e2, t, e3, e4, e5⟩ | ⟨e1, e2, t, g, e3, e4, e5⟩
  · refine nm_r e3 ?_
    refine br_f e1 (br_f hn ?_)
    refine ci_isT (fun _ => br_t rfl ?_) (fun h => absurd h e2)
    rw [e4]
    exact h1 e2
  · refine nm_r e2 ?_
    refine br_t rfl ?_
    refine ci_signed ?_
    rw [e3]
    exact h1 (by rw [e1]; exact ci_nT7)
  · refine nm_r e2 ?_
    refine br_f (by decide) (br_t rfl ?_)
    unfold wX_operandAt_46
    refine ci_widthOf ?_
    rw [ci_wd13]
    refine ci_signed ?_
    refine nm_r e4 (br_t rfl ?_)
    refine ci_cellAt hz e3 ?_
    rw [e5]
    exact h1 (by rw [e1]; exact ci_nT7)
  · refine nm_r e2 ?_
    refine br_f (ci_T7 e1) (br_f hn ?_)
    refine ci_isT (fun h => absurd e1 h) (fun _ => br_f (by decide) ?_)
    unfold wX_operandAt_46
    refine ci_widthOf ?_
    refine ci_signed ?_
    exact nm_r e4 (br_f hn (h2 t g e1 e3 e5))
theorem ci_opOf {post : Int32 → Prop} {i q : Nat} (hn : ¬ a_lineOp i = 13) (hI : ci_Img a_lineOp a_lineA a_lineB a_labels sb lb c sz a_addresses a_cells a_kinds i q) (h : post (a_lineOp i)) : wpX_opOf post (f_HALT, f_MOVE, f_ADD, f_SUB, f_MUL, f_LOAD, f_STORE, f_CONST, f_JUMP, f_BZ, f_BN, f_CALL, f_RET, f_POOL, f_VENEER, f_AROUND, f_LITERAL, f_DIRECT, f_WAITING, f_CELLS, f_JUMP_BITS, f_IMMEDIATE_BITS, f_FAR, f_capacity, f_depth, f_firstShortBits, f_firstLoadBits, nI sb, nI lb, nI c, nI sz, f_literalRuns, f_assembled, a_lineOp, a_lineA, a_lineB, a_labels, a_addresses, a_via, a_cells, a_kinds, a_keys, a_data, a_stack, a_held, a_spot, a_state) (a_cells q) := by
  rcases hI.2 with ⟨e1, e2, e3, e4⟩ | ⟨e1, e2, e3⟩ | ⟨e1, e2, t, e3, e4, e5⟩ | ⟨e1, e2, t, g, e3, e4, e5⟩
  · refine br_f (by rw [e3]; exact hn) ?_
    rw [e3]
    exact h
  · refine br_f (by rw [e2]; decide) ?_
    rw [e2, ← e1]
    exact h
  · refine br_t e2 ?_
    rw [← e1]
    exact h
  · refine br_f (by rw [e2]; exact hn) ?_
    rw [e2]
    exact h
theorem ci_lineReached {post : Int32 → Prop} {t g : Nat} (L : ci_Lay a_lineOp a_lineA a_lineB a_labels sb lb c sz a_addresses a_cells a_kinds) (hc : c ≤ 48) (hL : ci_Land (-1) c sz a_addresses a_cells a_kinds t g) (h : post (nI g)) : wpX_lineReached post (f_HALT, f_MOVE, f_ADD, f_SUB, f_MUL, f_LOAD, f_STORE, f_CONST, f_JUMP, f_BZ, f_BN, f_CALL, f_RET, f_POOL, f_VENEER, f_AROUND, f_LITERAL, f_DIRECT, f_WAITING, f_CELLS, f_JUMP_BITS, f_IMMEDIATE_BITS, f_FAR, f_capacity, f_depth, f_firstShortBits, f_firstLoadBits, nI sb, nI lb, nI c, nI sz, f_literalRuns, f_assembled, a_lineOp, a_lineA, a_lineB, a_labels, a_addresses, a_via, a_cells, a_kinds, a_keys, a_data, a_stack, a_held, a_spot, a_state) (nI t) := by
  obtain ⟨l1, l2, l3⟩ := hL
  obtain ⟨hz, LL⟩ := L
  unfold wpX_lineReached
  refine ci_cellAt hz l1 ?_
  refine ci_kindAt hz l1 ?_
  rcases l3 with ⟨l3, l4⟩ | ⟨l3, l4⟩
  · refine br_f (by rw [l3]; exact ci_n1 (by omega)) ?_
    unfold wX_lineReached_28
    refine ci_kindAt hz l1 ?_
    rw [l3]
    exact h
  · refine br_t l3 ?_
    refine ci_signed ?_
    unfold wX_lineReached_28
    obtain ⟨q, q1, q2, q3, _⟩ := LL g l2
    rw [l4, q2]
    refine ci_kindAt hz q1 ?_
    rw [q3]
    exact h
theorem ci_imageField {post : Int32 → Prop} {i : Nat} {f : Int32} (L : ci_Lay a_lineOp a_lineA a_lineB a_labels sb lb c sz a_addresses a_cells a_kinds) (hc : c ≤ 48) (hi : i ≤ c) (hn : ¬ a_lineOp i = 13)
    (h0 : f = 0 → post (a_lineOp i)) (h1 : f = 1 → post (a_lineA i)) (h2 : ¬ f = 0 → ¬ f = 1 → ¬ ci_T (a_lineOp i) → post (a_lineB i)) (h3 : ∀ g, ¬ f = 0 → ¬ f = 1 → ci_T (a_lineOp i) → ci_key a_labels (a_lineOp i) (a_lineB i) = nI g → post (nI g)) : wpX_imageField post (f_HALT, f_MOVE, f_ADD, f_SUB, f_MUL, f_LOAD, f_STORE, f_CONST, f_JUMP, f_BZ, f_BN, f_CALL, f_RET, f_POOL, f_VENEER, f_AROUND, f_LITERAL, f_DIRECT, f_WAITING, f_CELLS, f_JUMP_BITS, f_IMMEDIATE_BITS, f_FAR, f_capacity, f_depth, f_firstShortBits, f_firstLoadBits, nI sb, nI lb, nI c, nI sz, f_literalRuns, f_assembled, a_lineOp, a_lineA, a_lineB, a_labels, a_addresses, a_via, a_cells, a_kinds, a_keys, a_data, a_stack, a_held, a_spot, a_state) (nI i) f := by
  obtain ⟨q, q1, q2, q3, q4, _⟩ := L.2 i hi
  have hz := L.1
  unfold wpX_imageField
  refine ci_addressOf hc hi ?_
  rw [q2]
  refine ci_cellAt hz q1 ?_
  refine br_c (fun f0 => ?_) (fun f0 => br_c (fun f1 => ?_) (fun f1 => ?_))
  · exact ci_opOf hn q4 (h0 f0)
  · rw [q4.1]
    exact h1 f1
  · refine ci_operandAt hz q1 hn q4 (fun nt => ?_) (fun t g ht hk hl => ?_)
    · refine ci_isT (fun _ => br_t rfl (h2 f0 f1 nt)) (fun h => ?_)
      rcases q4.2 with ⟨e1, e2, e3, e4⟩ | ⟨e1, e2, e3⟩ | ⟨e1, e2, t, e3, e4, e5⟩ | ⟨e1, e2, t, g, e3, e4, e5⟩
      · rw [e3] at h; exact absurd h nt
      · rw [e2] at h; exact absurd h ci_nT7
      · rw [e2] at h; exact absurd h ci_nT13
      · exact absurd e1 nt
    · refine ci_isT (fun h => ?_) (fun _ => br_f (by decide) (ci_lineReached L hc hl (h3 g f0 f1 ht hk)))
      rcases q4.2 with ⟨e1, e2, e3, e4⟩ | ⟨e1, e2, e3⟩ | ⟨e1, e2, t, e3, e4, e5⟩ | ⟨e1, e2, t, g, e3, e4, e5⟩
      · exact absurd ht e2
      · rw [e1] at ht; exact absurd ht ci_nT7
      · rw [e1] at ht; exact absurd ht ci_nT7
      · rw [e2] at h; exact absurd ht h
theorem ci_settle {k : Int32} {t g : Nat} (L : ci_Lay a_lineOp a_lineA a_lineB a_labels sb lb c sz a_addresses a_cells a_kinds) (hc : c ≤ 48) (hk : k = -1 ∨ k = -2) (hL : ci_Land k c sz a_addresses a_cells a_kinds t g) (es : a_spot 1 = nI t) :
    ∃ s : Nat → Int32, s 1 = a_addresses g ∧ s 0 = a_spot 0 ∧ ∀ post : SX → Prop, post (f_HALT, f_MOVE, f_ADD, f_SUB, f_MUL, f_LOAD, f_STORE, f_CONST, f_JUMP, f_BZ, f_BN, f_CALL, f_RET, f_POOL, f_VENEER, f_AROUND, f_LITERAL, f_DIRECT, f_WAITING, f_CELLS, f_JUMP_BITS, f_IMMEDIATE_BITS, f_FAR, f_capacity, f_depth, f_firstShortBits, f_firstLoadBits, nI sb, nI lb, nI c, nI sz, f_literalRuns, f_assembled, a_lineOp, a_lineA, a_lineB, a_labels, a_addresses, a_via, a_cells, a_kinds, a_keys, a_data, a_stack, a_held, s, a_state) → wpX_settle post (f_HALT, f_MOVE, f_ADD, f_SUB, f_MUL, f_LOAD, f_STORE, f_CONST, f_JUMP, f_BZ, f_BN, f_CALL, f_RET, f_POOL, f_VENEER, f_AROUND, f_LITERAL, f_DIRECT, f_WAITING, f_CELLS, f_JUMP_BITS, f_IMMEDIATE_BITS, f_FAR, f_capacity, f_depth, f_firstShortBits, f_firstLoadBits, nI sb, nI lb, nI c, nI sz, f_literalRuns, f_assembled, a_lineOp, a_lineA, a_lineB, a_labels, a_addresses, a_via, a_cells, a_kinds, a_keys, a_data, a_stack, a_held, a_spot, a_state) := by
  obtain ⟨l1, l2, l3⟩ := hL
  obtain ⟨hz, LL⟩ := L
  rcases l3 with ⟨l3, l4⟩ | ⟨l3, l4⟩
  · refine ⟨a_spot, es.trans l4.symm, rfl, fun post h => ⟨1, ?_⟩⟩
    refine br_f (by decide) ?_
    refine ci_standing1 hz l1 es ?_
    rw [l3]
    exact br_t (nI_pos' (by omega)) h
  · obtain ⟨q, q1, q2, q3, _⟩ := LL g l2
    refine ⟨upd a_spot 1 (a_addresses g), pk_us, pk_un (by decide), fun post h => ⟨2, ?_⟩⟩
    refine br_f (by decide) ?_
    refine ci_standing1 hz l1 es ?_
    refine br_f (by rw [l3]; rcases hk with hk | hk <;> rw [hk] <;> decide) ?_
    refine nm_r es ?_
    refine ci_cellAt hz l1 ?_
    refine ci_kindAt hz l1 ?_
    refine br_f (by rw [l3]; rcases hk with hk | hk <;> rw [hk] <;> decide) ?_
    refine br_t rfl ?_
    refine br_t rfl ?_
    refine ci_signed ?_
    refine nm_r (e' := upd a_spot 1 (a_addresses g)) (by rw [l4]) ?_
    refine nm_r (e' := (1 : Int32)) (by decide) ?_
    refine br_f (by decide) ?_
    refine ci_standing1 hz q1 (pk_us.trans q2) ?_
    rw [q3]
    exact br_t (nI_pos' (by omega)) h
end
section
variable {f_HALT f_MOVE f_ADD f_SUB f_MUL f_LOAD f_STORE f_CONST f_JUMP f_BZ f_BN f_CALL f_RET f_POOL f_VENEER f_AROUND f_LITERAL f_DIRECT f_WAITING f_CELLS f_JUMP_BITS f_IMMEDIATE_BITS f_FAR f_capacity f_depth f_firstShortBits f_firstLoadBits f_shortBits f_loadBits f_count f_size f_literalRuns f_assembled : Int32} {a_lineOp a_lineA a_lineB a_labels a_addresses a_via a_cells a_kinds a_keys a_data a_stack a_held a_spot a_state : Nat → Int32}
theorem ci_sourceField {post : Int32 → Prop} {i : Nat} {f : Int32} (hi : i < 49)
    (h0 : f = 0 → post (a_lineOp i)) (h1 : ¬ 2 ≤ f → ¬ f = 0 → post (a_lineA i)) (h2 : 2 ≤ f → ¬ ci_T (a_lineOp i) → post (a_lineB i)) (h3 : 2 ≤ f → ci_T (a_lineOp i) → post (ci_key a_labels (a_lineOp i) (a_lineB i))) : wpX_sourceField post (f_HALT, f_MOVE, f_ADD, f_SUB, f_MUL, f_LOAD, f_STORE, f_CONST, f_JUMP, f_BZ, f_BN, f_CALL, f_RET, f_POOL, f_VENEER, f_AROUND, f_LITERAL, f_DIRECT, f_WAITING, f_CELLS, f_JUMP_BITS, f_IMMEDIATE_BITS, f_FAR, f_capacity, f_depth, f_firstShortBits, f_firstLoadBits, f_shortBits, f_loadBits, f_count, f_size, f_literalRuns, f_assembled, a_lineOp, a_lineA, a_lineB, a_labels, a_addresses, a_via, a_cells, a_kinds, a_keys, a_data, a_stack, a_held, a_spot, a_state) (nI i) f := by
  have ei : (nI i).toNatClampNeg = i := nI_clamp (by omega)
  have vi : vp_in (nI i) 49 := vp_in_nI hi (by decide)
  unfold wpX_sourceField
  rw [ei]
  refine br_c (fun c2 => ⟨vi, ?_⟩) (fun c2 => br_c (fun c0 => ⟨vi, h0 c0⟩) (fun c0 => ⟨vi, h1 c2 c0⟩))
  refine ci_isT (fun nt => br_t rfl ⟨vi, h2 c2 nt⟩) (fun ht => br_f (by decide) ⟨vi, ci_lineOfLabel ?_⟩)
  have := h3 c2 ht
  unfold ci_key at this
  rw [if_neg (ci_T7 ht)] at this
  exact this
end
end
section
/-! one step of the machines -/
def ci_cp (o : Nat) (d : Nat → Int32) (a m : Nat) (rb b : Int32) : Nat → Int32 :=
  if o = 1 then upd d a rb else if o = 2 then upd d a (d a + rb) else if o = 3 then upd d a (d a - rb) else if o = 4 then upd d a (d a * rb) else if o = 5 then upd d a (d m) else if o = 6 then upd d m (d a) else if o = 7 then upd d a b else d
theorem ci_cp0 {o a m : Nat} {d : Nat → Int32} {rb b : Int32} (h : 7 < o) : ci_cp o d a m rb b = d := by
  unfold ci_cp
  rw [if_neg (by omega), if_neg (by omega), if_neg (by omega), if_neg (by omega), if_neg (by omega), if_neg (by omega), if_neg (by omega)]
section
variable {f_HALT f_MOVE f_ADD f_SUB f_MUL f_LOAD f_STORE f_CONST f_JUMP f_BZ f_BN f_CALL f_RET f_POOL f_VENEER f_AROUND f_LITERAL f_DIRECT f_WAITING f_CELLS f_JUMP_BITS f_IMMEDIATE_BITS f_FAR f_capacity f_depth f_firstShortBits f_firstLoadBits f_shortBits f_loadBits f_count f_size f_literalRuns f_assembled : Int32} {a_lineOp a_lineA a_lineB a_labels a_addresses a_via a_cells a_kinds a_keys a_data a_stack a_held a_spot a_state : Nat → Int32}
theorem ci_comp0 {post : SX → Prop} {s a j k : Nat} {b : Int32} (hs : s < 2) (ha : a < 48) (hj : b &&& 7 = nI j) (hj8 : j < 8) (hk : a_data (s * 24 + j) &&& 15 = nI k) (hk16 : k < 16)
    (h : post (f_HALT, f_MOVE, f_ADD, f_SUB, f_MUL, f_LOAD, f_STORE, f_CONST, f_JUMP, f_BZ, f_BN, f_CALL, f_RET, f_POOL, f_VENEER, f_AROUND, f_LITERAL, f_DIRECT, f_WAITING, f_CELLS, f_JUMP_BITS, f_IMMEDIATE_BITS, f_FAR, f_capacity, f_depth, f_firstShortBits, f_firstLoadBits, f_shortBits, f_loadBits, f_count, f_size, f_literalRuns, f_assembled, a_lineOp, a_lineA, a_lineB, a_labels, a_addresses, a_via, a_cells, a_kinds, a_keys, ci_cp 0 a_data a (s * 24 + 8 + k) (a_data (s * 24 + j)) b, a_stack, a_held, a_spot, a_state)) : wpX_compute post (f_HALT, f_MOVE, f_ADD, f_SUB, f_MUL, f_LOAD, f_STORE, f_CONST, f_JUMP, f_BZ, f_BN, f_CALL, f_RET, f_POOL, f_VENEER, f_AROUND, f_LITERAL, f_DIRECT, f_WAITING, f_CELLS, f_JUMP_BITS, f_IMMEDIATE_BITS, f_FAR, f_capacity, f_depth, f_firstShortBits, f_firstLoadBits, f_shortBits, f_loadBits, f_count, f_size, f_literalRuns, f_assembled, a_lineOp, a_lineA, a_lineB, a_labels, a_addresses, a_via, a_cells, a_kinds, a_keys, a_data, a_stack, a_held, a_spot, a_state) (nI (s * 24)) (nI 0) (nI a) b := by
  have ea : (nI a).toNatClampNeg = a := nI_clamp (by omega)
  have em : (nI (s * 24 + 8 + k)).toNatClampNeg = s * 24 + 8 + k := nI_clamp (by omega)
  have va : vp_in (nI a) 48 := vp_in_nI ha (by decide)
  have vm : vp_in (nI (s * 24 + 8 + k)) 48 := vp_in_nI (by omega) (by decide)
  have vj : vp_in (nI (s * 24) + (b &&& 7)) 48 := by rw [hj, nI_add]; exact vp_in_nI (by omega) (by decide)
  have eJ : a_data (nI (s * 24) + (b &&& 7)).toNatClampNeg = a_data (s * 24 + j) := by rw [hj, nI_add, nI_clamp (by omega)]
  have eM : nI (s * 24) + 8 + (a_data (s * 24 + j) &&& 15) = nI (s * 24 + 8 + k) := by rw [hk, show nI (s * 24) + 8 = nI (s * 24 + 8) from nI_add _ 8, nI_add]
  unfold wpX_compute
  refine And.intro vj (nm_r eJ (nm_r eM ?_))
  exact br_f (by decide) (br_f (by decide) (br_f (by decide) (br_f (by decide) (br_f (by decide) (br_f (by decide) (br_f (by decide) (h)))))))
theorem ci_comp1 {post : SX → Prop} {s a j k : Nat} {b : Int32} (hs : s < 2) (ha : a < 48) (hj : b &&& 7 = nI j) (hj8 : j < 8) (hk : a_data (s * 24 + j) &&& 15 = nI k) (hk16 : k < 16)
    (h : post (f_HALT, f_MOVE, f_ADD, f_SUB, f_MUL, f_LOAD, f_STORE, f_CONST, f_JUMP, f_BZ, f_BN, f_CALL, f_RET, f_POOL, f_VENEER, f_AROUND, f_LITERAL, f_DIRECT, f_WAITING, f_CELLS, f_JUMP_BITS, f_IMMEDIATE_BITS, f_FAR, f_capacity, f_depth, f_firstShortBits, f_firstLoadBits, f_shortBits, f_loadBits, f_count, f_size, f_literalRuns, f_assembled, a_lineOp, a_lineA, a_lineB, a_labels, a_addresses, a_via, a_cells, a_kinds, a_keys, ci_cp 1 a_data a (s * 24 + 8 + k) (a_data (s * 24 + j)) b, a_stack, a_held, a_spot, a_state)) : wpX_compute post (f_HALT, f_MOVE, f_ADD, f_SUB, f_MUL, f_LOAD, f_STORE, f_CONST, f_JUMP, f_BZ, f_BN, f_CALL, f_RET, f_POOL, f_VENEER, f_AROUND, f_LITERAL, f_DIRECT, f_WAITING, f_CELLS, f_JUMP_BITS, f_IMMEDIATE_BITS, f_FAR, f_capacity, f_depth, f_firstShortBits, f_firstLoadBits, f_shortBits, f_loadBits, f_count, f_size, f_literalRuns, f_assembled, a_lineOp, a_lineA, a_lineB, a_labels, a_addresses, a_via, a_cells, a_kinds, a_keys, a_data, a_stack, a_held, a_spot, a_state) (nI (s * 24)) (nI 1) (nI a) b := by
  have ea : (nI a).toNatClampNeg = a := nI_clamp (by omega)
  have em : (nI (s * 24 + 8 + k)).toNatClampNeg = s * 24 + 8 + k := nI_clamp (by omega)
  have va : vp_in (nI a) 48 := vp_in_nI ha (by decide)
  have vm : vp_in (nI (s * 24 + 8 + k)) 48 := vp_in_nI (by omega) (by decide)
  have vj : vp_in (nI (s * 24) + (b &&& 7)) 48 := by rw [hj, nI_add]; exact vp_in_nI (by omega) (by decide)
  have eJ : a_data (nI (s * 24) + (b &&& 7)).toNatClampNeg = a_data (s * 24 + j) := by rw [hj, nI_add, nI_clamp (by omega)]
  have eM : nI (s * 24) + 8 + (a_data (s * 24 + j) &&& 15) = nI (s * 24 + 8 + k) := by rw [hk, show nI (s * 24) + 8 = nI (s * 24 + 8) from nI_add _ 8, nI_add]
  unfold wpX_compute
  refine And.intro vj (nm_r eJ (nm_r eM ?_))
  exact br_t rfl ⟨va, nm_r (e' := upd a_data a (a_data (s * 24 + j))) (by rw [ea]) (br_f (by decide) (br_f (by decide) (br_f (by decide) (br_f (by decide) (br_f (by decide) (br_f (by decide) (h)))))))⟩
theorem ci_comp2 {post : SX → Prop} {s a j k : Nat} {b : Int32} (hs : s < 2) (ha : a < 48) (hj : b &&& 7 = nI j) (hj8 : j < 8) (hk : a_data (s * 24 + j) &&& 15 = nI k) (hk16 : k < 16)
    (h : post (f_HALT, f_MOVE, f_ADD, f_SUB, f_MUL, f_LOAD, f_STORE, f_CONST, f_JUMP, f_BZ, f_BN, f_CALL, f_RET, f_POOL, f_VENEER, f_AROUND, f_LITERAL, f_DIRECT, f_WAITING, f_CELLS, f_JUMP_BITS, f_IMMEDIATE_BITS, f_FAR, f_capacity, f_depth, f_firstShortBits, f_firstLoadBits, f_shortBits, f_loadBits, f_count, f_size, f_literalRuns, f_assembled, a_lineOp, a_lineA, a_lineB, a_labels, a_addresses, a_via, a_cells, a_kinds, a_keys, ci_cp 2 a_data a (s * 24 + 8 + k) (a_data (s * 24 + j)) b, a_stack, a_held, a_spot, a_state)) : wpX_compute post (f_HALT, f_MOVE, f_ADD, f_SUB, f_MUL, f_LOAD, f_STORE, f_CONST, f_JUMP, f_BZ, f_BN, f_CALL, f_RET, f_POOL, f_VENEER, f_AROUND, f_LITERAL, f_DIRECT, f_WAITING, f_CELLS, f_JUMP_BITS, f_IMMEDIATE_BITS, f_FAR, f_capacity, f_depth, f_firstShortBits, f_firstLoadBits, f_shortBits, f_loadBits, f_count, f_size, f_literalRuns, f_assembled, a_lineOp, a_lineA, a_lineB, a_labels, a_addresses, a_via, a_cells, a_kinds, a_keys, a_data, a_stack, a_held, a_spot, a_state) (nI (s * 24)) (nI 2) (nI a) b := by
  have ea : (nI a).toNatClampNeg = a := nI_clamp (by omega)
  have em : (nI (s * 24 + 8 + k)).toNatClampNeg = s * 24 + 8 + k := nI_clamp (by omega)
  have va : vp_in (nI a) 48 := vp_in_nI ha (by decide)
  have vm : vp_in (nI (s * 24 + 8 + k)) 48 := vp_in_nI (by omega) (by decide)
  have vj : vp_in (nI (s * 24) + (b &&& 7)) 48 := by rw [hj, nI_add]; exact vp_in_nI (by omega) (by decide)
  have eJ : a_data (nI (s * 24) + (b &&& 7)).toNatClampNeg = a_data (s * 24 + j) := by rw [hj, nI_add, nI_clamp (by omega)]
  have eM : nI (s * 24) + 8 + (a_data (s * 24 + j) &&& 15) = nI (s * 24 + 8 + k) := by rw [hk, show nI (s * 24) + 8 = nI (s * 24 + 8) from nI_add _ 8, nI_add]
  unfold wpX_compute
  refine And.intro vj (nm_r eJ (nm_r eM ?_))
  exact br_f (by decide) (br_t rfl ⟨va, va, nm_r (e' := upd a_data a (a_data a + (a_data (s * 24 + j)))) (by rw [ea]) (br_f (by decide) (br_f (by decide) (br_f (by decide) (br_f (by decide) (br_f (by decide) (h))))))⟩)
theorem ci_comp3 {post : SX → Prop} {s a j k : Nat} {b : Int32} (hs : s < 2) (ha : a < 48) (hj : b &&& 7 = nI j) (hj8 : j < 8) (hk : a_data (s * 24 + j) &&& 15 = nI k) (hk16 : k < 16)
    (h : post (f_HALT, f_MOVE, f_ADD, f_SUB, f_MUL, f_LOAD, f_STORE, f_CONST, f_JUMP, f_BZ, f_BN, f_CALL, f_RET, f_POOL, f_VENEER, f_AROUND, f_LITERAL, f_DIRECT, f_WAITING, f_CELLS, f_JUMP_BITS, f_IMMEDIATE_BITS, f_FAR, f_capacity, f_depth, f_firstShortBits, f_firstLoadBits, f_shortBits, f_loadBits, f_count, f_size, f_literalRuns, f_assembled, a_lineOp, a_lineA, a_lineB, a_labels, a_addresses, a_via, a_cells, a_kinds, a_keys, ci_cp 3 a_data a (s * 24 + 8 + k) (a_data (s * 24 + j)) b, a_stack, a_held, a_spot, a_state)) : wpX_compute post (f_HALT, f_MOVE, f_ADD, f_SUB, f_MUL, f_LOAD, f_STORE, f_CONST, f_JUMP, f_BZ, f_BN, f_CALL, f_RET, f_POOL, f_VENEER, f_AROUND, f_LITERAL, f_DIRECT, f_WAITING, f_CELLS, f_JUMP_BITS, f_IMMEDIATE_BITS, f_FAR, f_capacity, f_depth, f_firstShortBits, f_firstLoadBits, f_shortBits, f_loadBits, f_count, f_size, f_literalRuns, f_assembled, a_lineOp, a_lineA, a_lineB, a_labels, a_addresses, a_via, a_cells, a_kinds, a_keys, a_data, a_stack, a_held, a_spot, a_state) (nI (s * 24)) (nI 3) (nI a) b := by
  have ea : (nI a).toNatClampNeg = a := nI_clamp (by omega)
  have em : (nI (s * 24 + 8 + k)).toNatClampNeg = s * 24 + 8 + k := nI_clamp (by omega)
  have va : vp_in (nI a) 48 := vp_in_nI ha (by decide)
  have vm : vp_in (nI (s * 24 + 8 + k)) 48 := vp_in_nI (by omega) (by decide)
  have vj : vp_in (nI (s * 24) + (b &&& 7)) 48 := by rw [hj, nI_add]; exact vp_in_nI (by omega) (by decide)
  have eJ : a_data (nI (s * 24) + (b &&& 7)).toNatClampNeg = a_data (s * 24 + j) := by rw [hj, nI_add, nI_clamp (by omega)]
  have eM : nI (s * 24) + 8 + (a_data (s * 24 + j) &&& 15) = nI (s * 24 + 8 + k) := by rw [hk, show nI (s * 24) + 8 = nI (s * 24 + 8) from nI_add _ 8, nI_add]
  unfold wpX_compute
  refine And.intro vj (nm_r eJ (nm_r eM ?_))
  exact br_f (by decide) (br_f (by decide) (br_t rfl ⟨va, va, nm_r (e' := upd a_data a (a_data a - (a_data (s * 24 + j)))) (by rw [ea]) (br_f (by decide) (br_f (by decide) (br_f (by decide) (br_f (by decide) (h)))))⟩))
theorem ci_comp4 {post : SX → Prop} {s a j k : Nat} {b : Int32} (hs : s < 2) (ha : a < 48) (hj : b &&& 7 = nI j) (hj8 : j < 8) (hk : a_data (s * 24 + j) &&& 15 = nI k) (hk16 : k < 16)
    (h : post (f_HALT, f_MOVE, f_ADD, f_SUB, f_MUL, f_LOAD, f_STORE, f_CONST, f_JUMP, f_BZ, f_BN, f_CALL, f_RET, f_POOL, f_VENEER, f_AROUND, f_LITERAL, f_DIRECT, f_WAITING, f_CELLS, f_JUMP_BITS, f_IMMEDIATE_BITS, f_FAR, f_capacity, f_depth, f_firstShortBits, f_firstLoadBits, f_shortBits, f_loadBits, f_count, f_size, f_literalRuns, f_assembled, a_lineOp, a_lineA, a_lineB, a_labels, a_addresses, a_via, a_cells, a_kinds, a_keys, ci_cp 4 a_data a (s * 24 + 8 + k) (a_data (s * 24 + j)) b, a_stack, a_held, a_spot, a_state)) : wpX_compute post (f_HALT, f_MOVE, f_ADD, f_SUB, f_MUL, f_LOAD, f_STORE, f_CONST, f_JUMP, f_BZ, f_BN, f_CALL, f_RET, f_POOL, f_VENEER, f_AROUND, f_LITERAL, f_DIRECT, f_WAITING, f_CELLS, f_JUMP_BITS, f_IMMEDIATE_BITS, f_FAR, f_capacity, f_depth, f_firstShortBits, f_firstLoadBits, f_shortBits, f_loadBits, f_count, f_size, f_literalRuns, f_assembled, a_lineOp, a_lineA, a_lineB, a_labels, a_addresses, a_via, a_cells, a_kinds, a_keys, a_data, a_stack, a_held, a_spot, a_state) (nI (s * 24)) (nI 4) (nI a) b := by
  have ea : (nI a).toNatClampNeg = a := nI_clamp (by omega)
  have em : (nI (s * 24 + 8 + k)).toNatClampNeg = s * 24 + 8 + k := nI_clamp (by omega)
  have va : vp_in (nI a) 48 := vp_in_nI ha (by decide)
  have vm : vp_in (nI (s * 24 + 8 + k)) 48 := vp_in_nI (by omega) (by decide)
  have vj : vp_in (nI (s * 24) + (b &&& 7)) 48 := by rw [hj, nI_add]; exact vp_in_nI (by omega) (by decide)
  have eJ : a_data (nI (s * 24) + (b &&& 7)).toNatClampNeg = a_data (s * 24 + j) := by rw [hj, nI_add, nI_clamp (by omega)]
  have eM : nI (s * 24) + 8 + (a_data (s * 24 + j) &&& 15) = nI (s * 24 + 8 + k) := by rw [hk, show nI (s * 24) + 8 = nI (s * 24 + 8) from nI_add _ 8, nI_add]
  unfold wpX_compute
  refine And.intro vj (nm_r eJ (nm_r eM ?_))
  exact br_f (by decide) (br_f (by decide) (br_f (by decide) (br_t rfl ⟨va, va, nm_r (e' := upd a_data a (a_data a * (a_data (s * 24 + j)))) (by rw [ea]) (br_f (by decide) (br_f (by decide) (br_f (by decide) (h))))⟩)))
theorem ci_comp5 {post : SX → Prop} {s a j k : Nat} {b : Int32} (hs : s < 2) (ha : a < 48) (hj : b &&& 7 = nI j) (hj8 : j < 8) (hk : a_data (s * 24 + j) &&& 15 = nI k) (hk16 : k < 16)
    (h : post (f_HALT, f_MOVE, f_ADD, f_SUB, f_MUL, f_LOAD, f_STORE, f_CONST, f_JUMP, f_BZ, f_BN, f_CALL, f_RET, f_POOL, f_VENEER, f_AROUND, f_LITERAL, f_DIRECT, f_WAITING, f_CELLS, f_JUMP_BITS, f_IMMEDIATE_BITS, f_FAR, f_capacity, f_depth, f_firstShortBits, f_firstLoadBits, f_shortBits, f_loadBits, f_count, f_size, f_literalRuns, f_assembled, a_lineOp, a_lineA, a_lineB, a_labels, a_addresses, a_via, a_cells, a_kinds, a_keys, ci_cp 5 a_data a (s * 24 + 8 + k) (a_data (s * 24 + j)) b, a_stack, a_held, a_spot, a_state)) : wpX_compute post (f_HALT, f_MOVE, f_ADD, f_SUB, f_MUL, f_LOAD, f_STORE, f_CONST, f_JUMP, f_BZ, f_BN, f_CALL, f_RET, f_POOL, f_VENEER, f_AROUND, f_LITERAL, f_DIRECT, f_WAITING, f_CELLS, f_JUMP_BITS, f_IMMEDIATE_BITS, f_FAR, f_capacity, f_depth, f_firstShortBits, f_firstLoadBits, f_shortBits, f_loadBits, f_count, f_size, f_literalRuns, f_assembled, a_lineOp, a_lineA, a_lineB, a_labels, a_addresses, a_via, a_cells, a_kinds, a_keys, a_data, a_stack, a_held, a_spot, a_state) (nI (s * 24)) (nI 5) (nI a) b := by
  have ea : (nI a).toNatClampNeg = a := nI_clamp (by omega)
  have em : (nI (s * 24 + 8 + k)).toNatClampNeg = s * 24 + 8 + k := nI_clamp (by omega)
  have va : vp_in (nI a) 48 := vp_in_nI ha (by decide)
  have vm : vp_in (nI (s * 24 + 8 + k)) 48 := vp_in_nI (by omega) (by decide)
  have vj : vp_in (nI (s * 24) + (b &&& 7)) 48 := by rw [hj, nI_add]; exact vp_in_nI (by omega) (by decide)
  have eJ : a_data (nI (s * 24) + (b &&& 7)).toNatClampNeg = a_data (s * 24 + j) := by rw [hj, nI_add, nI_clamp (by omega)]
  have eM : nI (s * 24) + 8 + (a_data (s * 24 + j) &&& 15) = nI (s * 24 + 8 + k) := by rw [hk, show nI (s * 24) + 8 = nI (s * 24 + 8) from nI_add _ 8, nI_add]
  unfold wpX_compute
  refine And.intro vj (nm_r eJ (nm_r eM ?_))
  exact br_f (by decide) (br_f (by decide) (br_f (by decide) (br_f (by decide) (br_t rfl ⟨vm, va, nm_r (e' := upd a_data a (a_data (s * 24 + 8 + k))) (by rw [ea, em]) (br_f (by decide) (br_f (by decide) (h)))⟩))))
theorem ci_comp6 {post : SX → Prop} {s a j k : Nat} {b : Int32} (hs : s < 2) (ha : a < 48) (hj : b &&& 7 = nI j) (hj8 : j < 8) (hk : a_data (s * 24 + j) &&& 15 = nI k) (hk16 : k < 16)
    (h : post (f_HALT, f_MOVE, f_ADD, f_SUB, f_MUL, f_LOAD, f_STORE, f_CONST, f_JUMP, f_BZ, f_BN, f_CALL, f_RET, f_POOL, f_VENEER, f_AROUND, f_LITERAL, f_DIRECT, f_WAITING, f_CELLS, f_JUMP_BITS, f_IMMEDIATE_BITS, f_FAR, f_capacity, f_depth, f_firstShortBits, f_firstLoadBits, f_shortBits, f_loadBits, f_count, f_size, f_literalRuns, f_assembled, a_lineOp, a_lineA, a_lineB, a_labels, a_addresses, a_via, a_cells, a_kinds, a_keys, ci_cp 6 a_data a (s * 24 + 8 + k) (a_data (s * 24 + j)) b, a_stack, a_held, a_spot, a_state)) : wpX_compute post (f_HALT, f_MOVE, f_ADD, f_SUB, f_MUL, f_LOAD, f_STORE, f_CONST, f_JUMP, f_BZ, f_BN, f_CALL, f_RET, f_POOL, f_VENEER, f_AROUND, f_LITERAL, f_DIRECT, f_WAITING, f_CELLS, f_JUMP_BITS, f_IMMEDIATE_BITS, f_FAR, f_capacity, f_depth, f_firstShortBits, f_firstLoadBits, f_shortBits, f_loadBits, f_count, f_size, f_literalRuns, f_assembled, a_lineOp, a_lineA, a_lineB, a_labels, a_addresses, a_via, a_cells, a_kinds, a_keys, a_data, a_stack, a_held, a_spot, a_state) (nI (s * 24)) (nI 6) (nI a) b := by
  have ea : (nI a).toNatClampNeg = a := nI_clamp (by omega)
  have em : (nI (s * 24 + 8 + k)).toNatClampNeg = s * 24 + 8 + k := nI_clamp (by omega)
  have va : vp_in (nI a) 48 := vp_in_nI ha (by decide)
  have vm : vp_in (nI (s * 24 + 8 + k)) 48 := vp_in_nI (by omega) (by decide)
  have vj : vp_in (nI (s * 24) + (b &&& 7)) 48 := by rw [hj, nI_add]; exact vp_in_nI (by omega) (by decide)
  have eJ : a_data (nI (s * 24) + (b &&& 7)).toNatClampNeg = a_data (s * 24 + j) := by rw [hj, nI_add, nI_clamp (by omega)]
  have eM : nI (s * 24) + 8 + (a_data (s * 24 + j) &&& 15) = nI (s * 24 + 8 + k) := by rw [hk, show nI (s * 24) + 8 = nI (s * 24 + 8) from nI_add _ 8, nI_add]
  unfold wpX_compute
  refine And.intro vj (nm_r eJ (nm_r eM ?_))
  exact br_f (by decide) (br_f (by decide) (br_f (by decide) (br_f (by decide) (br_f (by decide) (br_t rfl ⟨va, vm, nm_r (e' := upd a_data (s * 24 + 8 + k) (a_data a)) (by rw [ea, em]) (br_f (by decide) (h))⟩)))))
theorem ci_comp7 {post : SX → Prop} {s a j k : Nat} {b : Int32} (hs : s < 2) (ha : a < 48) (hj : b &&& 7 = nI j) (hj8 : j < 8) (hk : a_data (s * 24 + j) &&& 15 = nI k) (hk16 : k < 16)
    (h : post (f_HALT, f_MOVE, f_ADD, f_SUB, f_MUL, f_LOAD, f_STORE, f_CONST, f_JUMP, f_BZ, f_BN, f_CALL, f_RET, f_POOL, f_VENEER, f_AROUND, f_LITERAL, f_DIRECT, f_WAITING, f_CELLS, f_JUMP_BITS, f_IMMEDIATE_BITS, f_FAR, f_capacity, f_depth, f_firstShortBits, f_firstLoadBits, f_shortBits, f_loadBits, f_count, f_size, f_literalRuns, f_assembled, a_lineOp, a_lineA, a_lineB, a_labels, a_addresses, a_via, a_cells, a_kinds, a_keys, ci_cp 7 a_data a (s * 24 + 8 + k) (a_data (s * 24 + j)) b, a_stack, a_held, a_spot, a_state)) : wpX_compute post (f_HALT, f_MOVE, f_ADD, f_SUB, f_MUL, f_LOAD, f_STORE, f_CONST, f_JUMP, f_BZ, f_BN, f_CALL, f_RET, f_POOL, f_VENEER, f_AROUND, f_LITERAL, f_DIRECT, f_WAITING, f_CELLS, f_JUMP_BITS, f_IMMEDIATE_BITS, f_FAR, f_capacity, f_depth, f_firstShortBits, f_firstLoadBits, f_shortBits, f_loadBits, f_count, f_size, f_literalRuns, f_assembled, a_lineOp, a_lineA, a_lineB, a_labels, a_addresses, a_via, a_cells, a_kinds, a_keys, a_data, a_stack, a_held, a_spot, a_state) (nI (s * 24)) (nI 7) (nI a) b := by
  have ea : (nI a).toNatClampNeg = a := nI_clamp (by omega)
  have em : (nI (s * 24 + 8 + k)).toNatClampNeg = s * 24 + 8 + k := nI_clamp (by omega)
  have va : vp_in (nI a) 48 := vp_in_nI ha (by decide)
  have vm : vp_in (nI (s * 24 + 8 + k)) 48 := vp_in_nI (by omega) (by decide)
  have vj : vp_in (nI (s * 24) + (b &&& 7)) 48 := by rw [hj, nI_add]; exact vp_in_nI (by omega) (by decide)
  have eJ : a_data (nI (s * 24) + (b &&& 7)).toNatClampNeg = a_data (s * 24 + j) := by rw [hj, nI_add, nI_clamp (by omega)]
  have eM : nI (s * 24) + 8 + (a_data (s * 24 + j) &&& 15) = nI (s * 24 + 8 + k) := by rw [hk, show nI (s * 24) + 8 = nI (s * 24 + 8) from nI_add _ 8, nI_add]
  unfold wpX_compute
  refine And.intro vj (nm_r eJ (nm_r eM ?_))
  exact br_f (by decide) (br_f (by decide) (br_f (by decide) (br_f (by decide) (br_f (by decide) (br_f (by decide) (br_t rfl ⟨va, nm_r (e' := upd a_data a b) (by rw [ea]) (h)⟩))))))
theorem ci_comp8 {post : SX → Prop} {s a j k : Nat} {b : Int32} (hs : s < 2) (ha : a < 48) (hj : b &&& 7 = nI j) (hj8 : j < 8) (hk : a_data (s * 24 + j) &&& 15 = nI k) (hk16 : k < 16)
    (h : post (f_HALT, f_MOVE, f_ADD, f_SUB, f_MUL, f_LOAD, f_STORE, f_CONST, f_JUMP, f_BZ, f_BN, f_CALL, f_RET, f_POOL, f_VENEER, f_AROUND, f_LITERAL, f_DIRECT, f_WAITING, f_CELLS, f_JUMP_BITS, f_IMMEDIATE_BITS, f_FAR, f_capacity, f_depth, f_firstShortBits, f_firstLoadBits, f_shortBits, f_loadBits, f_count, f_size, f_literalRuns, f_assembled, a_lineOp, a_lineA, a_lineB, a_labels, a_addresses, a_via, a_cells, a_kinds, a_keys, ci_cp 8 a_data a (s * 24 + 8 + k) (a_data (s * 24 + j)) b, a_stack, a_held, a_spot, a_state)) : wpX_compute post (f_HALT, f_MOVE, f_ADD, f_SUB, f_MUL, f_LOAD, f_STORE, f_CONST, f_JUMP, f_BZ, f_BN, f_CALL, f_RET, f_POOL, f_VENEER, f_AROUND, f_LITERAL, f_DIRECT, f_WAITING, f_CELLS, f_JUMP_BITS, f_IMMEDIATE_BITS, f_FAR, f_capacity, f_depth, f_firstShortBits, f_firstLoadBits, f_shortBits, f_loadBits, f_count, f_size, f_literalRuns, f_assembled, a_lineOp, a_lineA, a_lineB, a_labels, a_addresses, a_via, a_cells, a_kinds, a_keys, a_data, a_stack, a_held, a_spot, a_state) (nI (s * 24)) (nI 8) (nI a) b := by
  have ea : (nI a).toNatClampNeg = a := nI_clamp (by omega)
  have em : (nI (s * 24 + 8 + k)).toNatClampNeg = s * 24 + 8 + k := nI_clamp (by omega)
  have va : vp_in (nI a) 48 := vp_in_nI ha (by decide)
  have vm : vp_in (nI (s * 24 + 8 + k)) 48 := vp_in_nI (by omega) (by decide)
  have vj : vp_in (nI (s * 24) + (b &&& 7)) 48 := by rw [hj, nI_add]; exact vp_in_nI (by omega) (by decide)
  have eJ : a_data (nI (s * 24) + (b &&& 7)).toNatClampNeg = a_data (s * 24 + j) := by rw [hj, nI_add, nI_clamp (by omega)]
  have eM : nI (s * 24) + 8 + (a_data (s * 24 + j) &&& 15) = nI (s * 24 + 8 + k) := by rw [hk, show nI (s * 24) + 8 = nI (s * 24 + 8) from nI_add _ 8, nI_add]
  unfold wpX_compute
  refine And.intro vj (nm_r eJ (nm_r eM ?_))
  exact br_f (by decide) (br_f (by decide) (br_f (by decide) (br_f (by decide) (br_f (by decide) (br_f (by decide) (br_f (by decide) (h)))))))
theorem ci_comp9 {post : SX → Prop} {s a j k : Nat} {b : Int32} (hs : s < 2) (ha : a < 48) (hj : b &&& 7 = nI j) (hj8 : j < 8) (hk : a_data (s * 24 + j) &&& 15 = nI k) (hk16 : k < 16)
    (h : post (f_HALT, f_MOVE, f_ADD, f_SUB, f_MUL, f_LOAD, f_STORE, f_CONST, f_JUMP, f_BZ, f_BN, f_CALL, f_RET, f_POOL, f_VENEER, f_AROUND, f_LITERAL, f_DIRECT, f_WAITING, f_CELLS, f_JUMP_BITS, f_IMMEDIATE_BITS, f_FAR, f_capacity, f_depth, f_firstShortBits, f_firstLoadBits, f_shortBits, f_loadBits, f_count, f_size, f_literalRuns, f_assembled, a_lineOp, a_lineA, a_lineB, a_labels, a_addresses, a_via, a_cells, a_kinds, a_keys, ci_cp 9 a_data a (s * 24 + 8 + k) (a_data (s * 24 + j)) b, a_stack, a_held, a_spot, a_state)) : wpX_compute post (f_HALT, f_MOVE, f_ADD, f_SUB, f_MUL, f_LOAD, f_STORE, f_CONST, f_JUMP, f_BZ, f_BN, f_CALL, f_RET, f_POOL, f_VENEER, f_AROUND, f_LITERAL, f_DIRECT, f_WAITING, f_CELLS, f_JUMP_BITS, f_IMMEDIATE_BITS, f_FAR, f_capacity, f_depth, f_firstShortBits, f_firstLoadBits, f_shortBits, f_loadBits, f_count, f_size, f_literalRuns, f_assembled, a_lineOp, a_lineA, a_lineB, a_labels, a_addresses, a_via, a_cells, a_kinds, a_keys, a_data, a_stack, a_held, a_spot, a_state) (nI (s * 24)) (nI 9) (nI a) b := by
  have ea : (nI a).toNatClampNeg = a := nI_clamp (by omega)
  have em : (nI (s * 24 + 8 + k)).toNatClampNeg = s * 24 + 8 + k := nI_clamp (by omega)
  have va : vp_in (nI a) 48 := vp_in_nI ha (by decide)
  have vm : vp_in (nI (s * 24 + 8 + k)) 48 := vp_in_nI (by omega) (by decide)
  have vj : vp_in (nI (s * 24) + (b &&& 7)) 48 := by rw [hj, nI_add]; exact vp_in_nI (by omega) (by decide)
  have eJ : a_data (nI (s * 24) + (b &&& 7)).toNatClampNeg = a_data (s * 24 + j) := by rw [hj, nI_add, nI_clamp (by omega)]
  have eM : nI (s * 24) + 8 + (a_data (s * 24 + j) &&& 15) = nI (s * 24 + 8 + k) := by rw [hk, show nI (s * 24) + 8 = nI (s * 24 + 8) from nI_add _ 8, nI_add]
  unfold wpX_compute
  refine And.intro vj (nm_r eJ (nm_r eM ?_))
  exact br_f (by decide) (br_f (by decide) (br_f (by decide) (br_f (by decide) (br_f (by decide) (br_f (by decide) (br_f (by decide) (h)))))))
theorem ci_comp10 {post : SX → Prop} {s a j k : Nat} {b : Int32} (hs : s < 2) (ha : a < 48) (hj : b &&& 7 = nI j) (hj8 : j < 8) (hk : a_data (s * 24 + j) &&& 15 = nI k) (hk16 : k < 16)
    (h : post (f_HALT, f_MOVE, f_ADD, f_SUB, f_MUL, f_LOAD, f_STORE, f_CONST, f_JUMP, f_BZ, f_BN, f_CALL, f_RET, f_POOL, f_VENEER, f_AROUND, f_LITERAL, f_DIRECT, f_WAITING, f_CELLS, f_JUMP_BITS, f_IMMEDIATE_BITS, f_FAR, f_capacity, f_depth, f_firstShortBits, f_firstLoadBits, f_shortBits, f_loadBits, f_count, f_size, f_literalRuns, f_assembled, a_lineOp, a_lineA, a_lineB, a_labels, a_addresses, a_via, a_cells, a_kinds, a_keys, ci_cp 10 a_data a (s * 24 + 8 + k) (a_data (s * 24 + j)) b, a_stack, a_held, a_spot, a_state)) : wpX_compute post (f_HALT, f_MOVE, f_ADD, f_SUB, f_MUL, f_LOAD, f_STORE, f_CONST, f_JUMP, f_BZ, f_BN, f_CALL, f_RET, f_POOL, f_VENEER, f_AROUND, f_LITERAL, f_DIRECT, f_WAITING, f_CELLS, f_JUMP_BITS, f_IMMEDIATE_BITS, f_FAR, f_capacity, f_depth, f_firstShortBits, f_firstLoadBits, f_shortBits, f_loadBits, f_count, f_size, f_literalRuns, f_assembled, a_lineOp, a_lineA, a_lineB, a_labels, a_addresses, a_via, a_cells, a_kinds, a_keys, a_data, a_stack, a_held, a_spot, a_state) (nI (s * 24)) (nI 10) (nI a) b := by
  have ea : (nI a).toNatClampNeg = a := nI_clamp (by omega)
  have em : (nI (s * 24 + 8 + k)).toNatClampNeg = s * 24 + 8 + k := nI_clamp (by omega)
  have va : vp_in (nI a) 48 := vp_in_nI ha (by decide)
  have vm : vp_in (nI (s * 24 + 8 + k)) 48 := vp_in_nI (by omega) (by decide)
  have vj : vp_in (nI (s * 24) + (b &&& 7)) 48 := by rw [hj, nI_add]; exact vp_in_nI (by omega) (by decide)
  have eJ : a_data (nI (s * 24) + (b &&& 7)).toNatClampNeg = a_data (s * 24 + j) := by rw [hj, nI_add, nI_clamp (by omega)]
  have eM : nI (s * 24) + 8 + (a_data (s * 24 + j) &&& 15) = nI (s * 24 + 8 + k) := by rw [hk, show nI (s * 24) + 8 = nI (s * 24 + 8) from nI_add _ 8, nI_add]
  unfold wpX_compute
  refine And.intro vj (nm_r eJ (nm_r eM ?_))
  exact br_f (by decide) (br_f (by decide) (br_f (by decide) (br_f (by decide) (br_f (by decide) (br_f (by decide) (br_f (by decide) (h)))))))
theorem ci_comp11 {post : SX → Prop} {s a j k : Nat} {b : Int32} (hs : s < 2) (ha : a < 48) (hj : b &&& 7 = nI j) (hj8 : j < 8) (hk : a_data (s * 24 + j) &&& 15 = nI k) (hk16 : k < 16)
    (h : post (f_HALT, f_MOVE, f_ADD, f_SUB, f_MUL, f_LOAD, f_STORE, f_CONST, f_JUMP, f_BZ, f_BN, f_CALL, f_RET, f_POOL, f_VENEER, f_AROUND, f_LITERAL, f_DIRECT, f_WAITING, f_CELLS, f_JUMP_BITS, f_IMMEDIATE_BITS, f_FAR, f_capacity, f_depth, f_firstShortBits, f_firstLoadBits, f_shortBits, f_loadBits, f_count, f_size, f_literalRuns, f_assembled, a_lineOp, a_lineA, a_lineB, a_labels, a_addresses, a_via, a_cells, a_kinds, a_keys, ci_cp 11 a_data a (s * 24 + 8 + k) (a_data (s * 24 + j)) b, a_stack, a_held, a_spot, a_state)) : wpX_compute post (f_HALT, f_MOVE, f_ADD, f_SUB, f_MUL, f_LOAD, f_STORE, f_CONST, f_JUMP, f_BZ, f_BN, f_CALL, f_RET, f_POOL, f_VENEER, f_AROUND, f_LITERAL, f_DIRECT, f_WAITING, f_CELLS, f_JUMP_BITS, f_IMMEDIATE_BITS, f_FAR, f_capacity, f_depth, f_firstShortBits, f_firstLoadBits, f_shortBits, f_loadBits, f_count, f_size, f_literalRuns, f_assembled, a_lineOp, a_lineA, a_lineB, a_labels, a_addresses, a_via, a_cells, a_kinds, a_keys, a_data, a_stack, a_held, a_spot, a_state) (nI (s * 24)) (nI 11) (nI a) b := by
  have ea : (nI a).toNatClampNeg = a := nI_clamp (by omega)
  have em : (nI (s * 24 + 8 + k)).toNatClampNeg = s * 24 + 8 + k := nI_clamp (by omega)
  have va : vp_in (nI a) 48 := vp_in_nI ha (by decide)
  have vm : vp_in (nI (s * 24 + 8 + k)) 48 := vp_in_nI (by omega) (by decide)
  have vj : vp_in (nI (s * 24) + (b &&& 7)) 48 := by rw [hj, nI_add]; exact vp_in_nI (by omega) (by decide)
  have eJ : a_data (nI (s * 24) + (b &&& 7)).toNatClampNeg = a_data (s * 24 + j) := by rw [hj, nI_add, nI_clamp (by omega)]
  have eM : nI (s * 24) + 8 + (a_data (s * 24 + j) &&& 15) = nI (s * 24 + 8 + k) := by rw [hk, show nI (s * 24) + 8 = nI (s * 24 + 8) from nI_add _ 8, nI_add]
  unfold wpX_compute
  refine And.intro vj (nm_r eJ (nm_r eM ?_))
  exact br_f (by decide) (br_f (by decide) (br_f (by decide) (br_f (by decide) (br_f (by decide) (br_f (by decide) (br_f (by decide) (h)))))))
theorem ci_comp12 {post : SX → Prop} {s a j k : Nat} {b : Int32} (hs : s < 2) (ha : a < 48) (hj : b &&& 7 = nI j) (hj8 : j < 8) (hk : a_data (s * 24 + j) &&& 15 = nI k) (hk16 : k < 16)
    (h : post (f_HALT, f_MOVE, f_ADD, f_SUB, f_MUL, f_LOAD, f_STORE, f_CONST, f_JUMP, f_BZ, f_BN, f_CALL, f_RET, f_POOL, f_VENEER, f_AROUND, f_LITERAL, f_DIRECT, f_WAITING, f_CELLS, f_JUMP_BITS, f_IMMEDIATE_BITS, f_FAR, f_capacity, f_depth, f_firstShortBits, f_firstLoadBits, f_shortBits, f_loadBits, f_count, f_size, f_literalRuns, f_assembled, a_lineOp, a_lineA, a_lineB, a_labels, a_addresses, a_via, a_cells, a_kinds, a_keys, ci_cp 12 a_data a (s * 24 + 8 + k) (a_data (s * 24 + j)) b, a_stack, a_held, a_spot, a_state)) : wpX_compute post (f_HALT, f_MOVE, f_ADD, f_SUB, f_MUL, f_LOAD, f_STORE, f_CONST, f_JUMP, f_BZ, f_BN, f_CALL, f_RET, f_POOL, f_VENEER, f_AROUND, f_LITERAL, f_DIRECT, f_WAITING, f_CELLS, f_JUMP_BITS, f_IMMEDIATE_BITS, f_FAR, f_capacity, f_depth, f_firstShortBits, f_firstLoadBits, f_shortBits, f_loadBits, f_count, f_size, f_literalRuns, f_assembled, a_lineOp, a_lineA, a_lineB, a_labels, a_addresses, a_via, a_cells, a_kinds, a_keys, a_data, a_stack, a_held, a_spot, a_state) (nI (s * 24)) (nI 12) (nI a) b := by
  have ea : (nI a).toNatClampNeg = a := nI_clamp (by omega)
  have em : (nI (s * 24 + 8 + k)).toNatClampNeg = s * 24 + 8 + k := nI_clamp (by omega)
  have va : vp_in (nI a) 48 := vp_in_nI ha (by decide)
  have vm : vp_in (nI (s * 24 + 8 + k)) 48 := vp_in_nI (by omega) (by decide)
  have vj : vp_in (nI (s * 24) + (b &&& 7)) 48 := by rw [hj, nI_add]; exact vp_in_nI (by omega) (by decide)
  have eJ : a_data (nI (s * 24) + (b &&& 7)).toNatClampNeg = a_data (s * 24 + j) := by rw [hj, nI_add, nI_clamp (by omega)]
  have eM : nI (s * 24) + 8 + (a_data (s * 24 + j) &&& 15) = nI (s * 24 + 8 + k) := by rw [hk, show nI (s * 24) + 8 = nI (s * 24 + 8) from nI_add _ 8, nI_add]
  unfold wpX_compute
  refine And.intro vj (nm_r eJ (nm_r eM ?_))
  exact br_f (by decide) (br_f (by decide) (br_f (by decide) (br_f (by decide) (br_f (by decide) (br_f (by decide) (br_f (by decide) (h)))))))
theorem ci_compute {post : SX → Prop} {o s a j k : Nat} {b : Int32} (ho : o ≤ 12) (hs : s < 2) (ha : a < 48) (hj : b &&& 7 = nI j) (hj8 : j < 8) (hk : a_data (s * 24 + j) &&& 15 = nI k) (hk16 : k < 16)
    (h : post (f_HALT, f_MOVE, f_ADD, f_SUB, f_MUL, f_LOAD, f_STORE, f_CONST, f_JUMP, f_BZ, f_BN, f_CALL, f_RET, f_POOL, f_VENEER, f_AROUND, f_LITERAL, f_DIRECT, f_WAITING, f_CELLS, f_JUMP_BITS, f_IMMEDIATE_BITS, f_FAR, f_capacity, f_depth, f_firstShortBits, f_firstLoadBits, f_shortBits, f_loadBits, f_count, f_size, f_literalRuns, f_assembled, a_lineOp, a_lineA, a_lineB, a_labels, a_addresses, a_via, a_cells, a_kinds, a_keys, ci_cp o a_data a (s * 24 + 8 + k) (a_data (s * 24 + j)) b, a_stack, a_held, a_spot, a_state)) : wpX_compute post (f_HALT, f_MOVE, f_ADD, f_SUB, f_MUL, f_LOAD, f_STORE, f_CONST, f_JUMP, f_BZ, f_BN, f_CALL, f_RET, f_POOL, f_VENEER, f_AROUND, f_LITERAL, f_DIRECT, f_WAITING, f_CELLS, f_JUMP_BITS, f_IMMEDIATE_BITS, f_FAR, f_capacity, f_depth, f_firstShortBits, f_firstLoadBits, f_shortBits, f_loadBits, f_count, f_size, f_literalRuns, f_assembled, a_lineOp, a_lineA, a_lineB, a_labels, a_addresses, a_via, a_cells, a_kinds, a_keys, a_data, a_stack, a_held, a_spot, a_state) (nI (s * 24)) (nI o) (nI a) b := by
  have hh : o = 0 ∨ o = 1 ∨ o = 2 ∨ o = 3 ∨ o = 4 ∨ o = 5 ∨ o = 6 ∨ o = 7 ∨ o = 8 ∨ o = 9 ∨ o = 10 ∨ o = 11 ∨ o = 12 := by omega
  rcases hh with rfl | rfl | rfl | rfl | rfl | rfl | rfl | rfl | rfl | rfl | rfl | rfl | rfl
  · exact ci_comp0 hs ha hj hj8 hk hk16 h
  · exact ci_comp1 hs ha hj hj8 hk hk16 h
  · exact ci_comp2 hs ha hj hj8 hk hk16 h
  · exact ci_comp3 hs ha hj hj8 hk hk16 h
  · exact ci_comp4 hs ha hj hj8 hk hk16 h
  · exact ci_comp5 hs ha hj hj8 hk hk16 h
  · exact ci_comp6 hs ha hj hj8 hk hk16 h
  · exact ci_comp7 hs ha hj hj8 hk hk16 h
  · exact ci_comp8 hs ha hj hj8 hk hk16 h
  · exact ci_comp9 hs ha hj hj8 hk hk16 h
  · exact ci_comp10 hs ha hj hj8 hk hk16 h
  · exact ci_comp11 hs ha hj hj8 hk hk16 h
  · exact ci_comp12 hs ha hj hj8 hk hk16 h
theorem ci_call_ok {post : SX → Prop} {s h dp : Nat} {b : Int32} (hs : s < 2) (hd : dp ≤ 8) (eh : a_held s = nI h) (hh : h < dp)
    (hp : post (f_HALT, f_MOVE, f_ADD, f_SUB, f_MUL, f_LOAD, f_STORE, f_CONST, f_JUMP, f_BZ, f_BN, f_CALL, f_RET, f_POOL, f_VENEER, f_AROUND, f_LITERAL, f_DIRECT, f_WAITING, f_CELLS, f_JUMP_BITS, f_IMMEDIATE_BITS, f_FAR, f_capacity, nI dp, f_firstShortBits, f_firstLoadBits, f_shortBits, f_loadBits, f_count, f_size, f_literalRuns, f_assembled, a_lineOp, a_lineA, a_lineB, a_labels, a_addresses, a_via, a_cells, a_kinds, a_keys, a_data, upd a_stack (s * 8 + h) (a_spot s + 1), upd a_held s (nI (h + 1)), upd a_spot s b, a_state)) : wpX_call post (f_HALT, f_MOVE, f_ADD, f_SUB, f_MUL, f_LOAD, f_STORE, f_CONST, f_JUMP, f_BZ, f_BN, f_CALL, f_RET, f_POOL, f_VENEER, f_AROUND, f_LITERAL, f_DIRECT, f_WAITING, f_CELLS, f_JUMP_BITS, f_IMMEDIATE_BITS, f_FAR, f_capacity, nI dp, f_firstShortBits, f_firstLoadBits, f_shortBits, f_loadBits, f_count, f_size, f_literalRuns, f_assembled, a_lineOp, a_lineA, a_lineB, a_labels, a_addresses, a_via, a_cells, a_kinds, a_keys, a_data, a_stack, a_held, a_spot, a_state) (nI s) b := by
  have es : (nI s).toNatClampNeg = s := nI_clamp (by omega)
  have vs : vp_in (nI s) 2 := vp_in_nI hs (by decide)
  have ix : nI s * 8 + nI h = nI (s * 8 + h) := by rw [show nI s * 8 = nI (s * 8) from pk_mul s 8, nI_add]
  unfold wpX_call
  refine And.intro vs ?_
  rw [es, eh, ix, nI_clamp (show s * 8 + h < 2 ^ 31 by omega), nI_1 h]
  exact br_t (nI_lt hh (by omega)) ⟨vs, vs, vp_in_nI (by omega) (by decide), nm_e ⟨vs, vs, nm_e ⟨vs, nm_e hp⟩⟩⟩
theorem ci_call_trap {post : SX → Prop} {s h dp : Nat} {b : Int32} (hs : s < 2) (hh8 : h ≤ 8) (eh : a_held s = nI h) (hh : dp ≤ h)
    (hp : post (f_HALT, f_MOVE, f_ADD, f_SUB, f_MUL, f_LOAD, f_STORE, f_CONST, f_JUMP, f_BZ, f_BN, f_CALL, f_RET, f_POOL, f_VENEER, f_AROUND, f_LITERAL, f_DIRECT, f_WAITING, f_CELLS, f_JUMP_BITS, f_IMMEDIATE_BITS, f_FAR, f_capacity, nI dp, f_firstShortBits, f_firstLoadBits, f_shortBits, f_loadBits, f_count, f_size, f_literalRuns, f_assembled, a_lineOp, a_lineA, a_lineB, a_labels, a_addresses, a_via, a_cells, a_kinds, a_keys, a_data, a_stack, a_held, a_spot, upd a_state s 3)) : wpX_call post (f_HALT, f_MOVE, f_ADD, f_SUB, f_MUL, f_LOAD, f_STORE, f_CONST, f_JUMP, f_BZ, f_BN, f_CALL, f_RET, f_POOL, f_VENEER, f_AROUND, f_LITERAL, f_DIRECT, f_WAITING, f_CELLS, f_JUMP_BITS, f_IMMEDIATE_BITS, f_FAR, f_capacity, nI dp, f_firstShortBits, f_firstLoadBits, f_shortBits, f_loadBits, f_count, f_size, f_literalRuns, f_assembled, a_lineOp, a_lineA, a_lineB, a_labels, a_addresses, a_via, a_cells, a_kinds, a_keys, a_data, a_stack, a_held, a_spot, a_state) (nI s) b := by
  have es : (nI s).toNatClampNeg = s := nI_clamp (by omega)
  have vs : vp_in (nI s) 2 := vp_in_nI hs (by decide)
  unfold wpX_call
  refine And.intro vs ?_
  rw [es, eh]
  exact br_f (nI_nlt hh (by omega)) ⟨vs, nm_e hp⟩
theorem ci_back_ok {post : SX → Prop} {s h : Nat} (hs : s < 2) (hh8 : h < 8) (eh : a_held s = nI (h + 1))
    (hp : post (f_HALT, f_MOVE, f_ADD, f_SUB, f_MUL, f_LOAD, f_STORE, f_CONST, f_JUMP, f_BZ, f_BN, f_CALL, f_RET, f_POOL, f_VENEER, f_AROUND, f_LITERAL, f_DIRECT, f_WAITING, f_CELLS, f_JUMP_BITS, f_IMMEDIATE_BITS, f_FAR, f_capacity, f_depth, f_firstShortBits, f_firstLoadBits, f_shortBits, f_loadBits, f_count, f_size, f_literalRuns, f_assembled, a_lineOp, a_lineA, a_lineB, a_labels, a_addresses, a_via, a_cells, a_kinds, a_keys, a_data, a_stack, upd a_held s (nI h), upd a_spot s (a_stack (s * 8 + h)), a_state)) : wpX_comeBack post (f_HALT, f_MOVE, f_ADD, f_SUB, f_MUL, f_LOAD, f_STORE, f_CONST, f_JUMP, f_BZ, f_BN, f_CALL, f_RET, f_POOL, f_VENEER, f_AROUND, f_LITERAL, f_DIRECT, f_WAITING, f_CELLS, f_JUMP_BITS, f_IMMEDIATE_BITS, f_FAR, f_capacity, f_depth, f_firstShortBits, f_firstLoadBits, f_shortBits, f_loadBits, f_count, f_size, f_literalRuns, f_assembled, a_lineOp, a_lineA, a_lineB, a_labels, a_addresses, a_via, a_cells, a_kinds, a_keys, a_data, a_stack, a_held, a_spot, a_state) (nI s) := by
  have es : (nI s).toNatClampNeg = s := nI_clamp (by omega)
  have vs : vp_in (nI s) 2 := vp_in_nI hs (by decide)
  have ix : nI s * 8 + nI h = nI (s * 8 + h) := by rw [show nI s * 8 = nI (s * 8) from pk_mul s 8, nI_add]
  have ec : (nI (s * 8 + h)).toNatClampNeg = s * 8 + h := nI_clamp (by omega)
  unfold wpX_comeBack
  refine And.intro vs ?_
  rw [es, eh]
  refine br_t (nI_lt (a := 0) (by omega) (by omega)) ⟨vs, vs, nm_r (e' := upd a_held s (nI h)) (by rw [nI_pred]) ⟨vs, ?_⟩⟩
  rw [pk_us, ix, ec]
  exact ⟨vp_in_nI (by omega) (by decide), vs, nm_e hp⟩
theorem ci_back_trap {post : SX → Prop} {s : Nat} (hs : s < 2) (eh : a_held s = nI 0)
    (hp : post (f_HALT, f_MOVE, f_ADD, f_SUB, f_MUL, f_LOAD, f_STORE, f_CONST, f_JUMP, f_BZ, f_BN, f_CALL, f_RET, f_POOL, f_VENEER, f_AROUND, f_LITERAL, f_DIRECT, f_WAITING, f_CELLS, f_JUMP_BITS, f_IMMEDIATE_BITS, f_FAR, f_capacity, f_depth, f_firstShortBits, f_firstLoadBits, f_shortBits, f_loadBits, f_count, f_size, f_literalRuns, f_assembled, a_lineOp, a_lineA, a_lineB, a_labels, a_addresses, a_via, a_cells, a_kinds, a_keys, a_data, a_stack, a_held, a_spot, upd a_state s 3)) : wpX_comeBack post (f_HALT, f_MOVE, f_ADD, f_SUB, f_MUL, f_LOAD, f_STORE, f_CONST, f_JUMP, f_BZ, f_BN, f_CALL, f_RET, f_POOL, f_VENEER, f_AROUND, f_LITERAL, f_DIRECT, f_WAITING, f_CELLS, f_JUMP_BITS, f_IMMEDIATE_BITS, f_FAR, f_capacity, f_depth, f_firstShortBits, f_firstLoadBits, f_shortBits, f_loadBits, f_count, f_size, f_literalRuns, f_assembled, a_lineOp, a_lineA, a_lineB, a_labels, a_addresses, a_via, a_cells, a_kinds, a_keys, a_data, a_stack, a_held, a_spot, a_state) (nI s) := by
  have es : (nI s).toNatClampNeg = s := nI_clamp (by omega)
  have vs : vp_in (nI s) 2 := vp_in_nI hs (by decide)
  unfold wpX_comeBack
  refine And.intro vs ?_
  rw [es, eh]
  exact br_f (by decide) ⟨vs, nm_e hp⟩
theorem ci_x5 {s a : Nat} : nI s * 24 + nI a = nI (s * 24 + a) := by rw [show nI s * 24 = nI (s * 24) from pk_mul s 24, nI_add]
theorem ci_ex_halt {post : SX → Prop} {s a : Nat} {b : Int32} (hs : s < 2) (h : post (f_HALT, f_MOVE, f_ADD, f_SUB, f_MUL, f_LOAD, f_STORE, f_CONST, f_JUMP, f_BZ, f_BN, f_CALL, f_RET, f_POOL, f_VENEER, f_AROUND, f_LITERAL, f_DIRECT, f_WAITING, f_CELLS, f_JUMP_BITS, f_IMMEDIATE_BITS, f_FAR, f_capacity, f_depth, f_firstShortBits, f_firstLoadBits, f_shortBits, f_loadBits, f_count, f_size, f_literalRuns, f_assembled, a_lineOp, a_lineA, a_lineB, a_labels, a_addresses, a_via, a_cells, a_kinds, a_keys, a_data, a_stack, a_held, a_spot, upd a_state s 2)) : wpX_execute post (f_HALT, f_MOVE, f_ADD, f_SUB, f_MUL, f_LOAD, f_STORE, f_CONST, f_JUMP, f_BZ, f_BN, f_CALL, f_RET, f_POOL, f_VENEER, f_AROUND, f_LITERAL, f_DIRECT, f_WAITING, f_CELLS, f_JUMP_BITS, f_IMMEDIATE_BITS, f_FAR, f_capacity, f_depth, f_firstShortBits, f_firstLoadBits, f_shortBits, f_loadBits, f_count, f_size, f_literalRuns, f_assembled, a_lineOp, a_lineA, a_lineB, a_labels, a_addresses, a_via, a_cells, a_kinds, a_keys, a_data, a_stack, a_held, a_spot, a_state) (nI s) (nI 0) (nI a) b := by
  have es : (nI s).toNatClampNeg = s := nI_clamp (by omega)
  have vs : vp_in (nI s) 2 := vp_in_nI hs (by decide)
  unfold wpX_execute
  refine nm_e (br_f (by decide) (br_f (by decide) (br_f (by decide) (br_t rfl ⟨vs, nm_r (e' := upd a_state s 2) (by rw [es]) h⟩))))
theorem ci_ex_call_ok {post : SX → Prop} {s a h dp : Nat} {b : Int32} (hs : s < 2) (hd : dp ≤ 8) (eh : a_held s = nI h) (hh : h < dp)
    (hp : post (f_HALT, f_MOVE, f_ADD, f_SUB, f_MUL, f_LOAD, f_STORE, f_CONST, f_JUMP, f_BZ, f_BN, f_CALL, f_RET, f_POOL, f_VENEER, f_AROUND, f_LITERAL, f_DIRECT, f_WAITING, f_CELLS, f_JUMP_BITS, f_IMMEDIATE_BITS, f_FAR, f_capacity, nI dp, f_firstShortBits, f_firstLoadBits, f_shortBits, f_loadBits, f_count, f_size, f_literalRuns, f_assembled, a_lineOp, a_lineA, a_lineB, a_labels, a_addresses, a_via, a_cells, a_kinds, a_keys, a_data, upd a_stack (s * 8 + h) (a_spot s + 1), upd a_held s (nI (h + 1)), upd a_spot s b, a_state)) : wpX_execute post (f_HALT, f_MOVE, f_ADD, f_SUB, f_MUL, f_LOAD, f_STORE, f_CONST, f_JUMP, f_BZ, f_BN, f_CALL, f_RET, f_POOL, f_VENEER, f_AROUND, f_LITERAL, f_DIRECT, f_WAITING, f_CELLS, f_JUMP_BITS, f_IMMEDIATE_BITS, f_FAR, f_capacity, nI dp, f_firstShortBits, f_firstLoadBits, f_shortBits, f_loadBits, f_count, f_size, f_literalRuns, f_assembled, a_lineOp, a_lineA, a_lineB, a_labels, a_addresses, a_via, a_cells, a_kinds, a_keys, a_data, a_stack, a_held, a_spot, a_state) (nI s) (nI 11) (nI a) b := by
  unfold wpX_execute
  refine nm_e (br_f (by decide) (br_f (by decide) (br_f (by decide) (br_f (by decide) (br_t rfl ?_)))))
  exact ci_call_ok hs hd eh hh hp
theorem ci_ex_call_trap {post : SX → Prop} {s a h dp : Nat} {b : Int32} (hs : s < 2) (hh8 : h ≤ 8) (eh : a_held s = nI h) (hh : dp ≤ h)
    (hp : post (f_HALT, f_MOVE, f_ADD, f_SUB, f_MUL, f_LOAD, f_STORE, f_CONST, f_JUMP, f_BZ, f_BN, f_CALL, f_RET, f_POOL, f_VENEER, f_AROUND, f_LITERAL, f_DIRECT, f_WAITING, f_CELLS, f_JUMP_BITS, f_IMMEDIATE_BITS, f_FAR, f_capacity, nI dp, f_firstShortBits, f_firstLoadBits, f_shortBits, f_loadBits, f_count, f_size, f_literalRuns, f_assembled, a_lineOp, a_lineA, a_lineB, a_labels, a_addresses, a_via, a_cells, a_kinds, a_keys, a_data, a_stack, a_held, a_spot, upd a_state s 3)) : wpX_execute post (f_HALT, f_MOVE, f_ADD, f_SUB, f_MUL, f_LOAD, f_STORE, f_CONST, f_JUMP, f_BZ, f_BN, f_CALL, f_RET, f_POOL, f_VENEER, f_AROUND, f_LITERAL, f_DIRECT, f_WAITING, f_CELLS, f_JUMP_BITS, f_IMMEDIATE_BITS, f_FAR, f_capacity, nI dp, f_firstShortBits, f_firstLoadBits, f_shortBits, f_loadBits, f_count, f_size, f_literalRuns, f_assembled, a_lineOp, a_lineA, a_lineB, a_labels, a_addresses, a_via, a_cells, a_kinds, a_keys, a_data, a_stack, a_held, a_spot, a_state) (nI s) (nI 11) (nI a) b := by
  unfold wpX_execute
  refine nm_e (br_f (by decide) (br_f (by decide) (br_f (by decide) (br_f (by decide) (br_t rfl ?_)))))
  exact ci_call_trap hs hh8 eh hh hp
theorem ci_ex_ret_ok {post : SX → Prop} {s a h : Nat} {b : Int32} (hs : s < 2) (hh8 : h < 8) (eh : a_held s = nI (h + 1))
    (hp : post (f_HALT, f_MOVE, f_ADD, f_SUB, f_MUL, f_LOAD, f_STORE, f_CONST, f_JUMP, f_BZ, f_BN, f_CALL, f_RET, f_POOL, f_VENEER, f_AROUND, f_LITERAL, f_DIRECT, f_WAITING, f_CELLS, f_JUMP_BITS, f_IMMEDIATE_BITS, f_FAR, f_capacity, f_depth, f_firstShortBits, f_firstLoadBits, f_shortBits, f_loadBits, f_count, f_size, f_literalRuns, f_assembled, a_lineOp, a_lineA, a_lineB, a_labels, a_addresses, a_via, a_cells, a_kinds, a_keys, a_data, a_stack, upd a_held s (nI h), upd a_spot s (a_stack (s * 8 + h)), a_state)) : wpX_execute post (f_HALT, f_MOVE, f_ADD, f_SUB, f_MUL, f_LOAD, f_STORE, f_CONST, f_JUMP, f_BZ, f_BN, f_CALL, f_RET, f_POOL, f_VENEER, f_AROUND, f_LITERAL, f_DIRECT, f_WAITING, f_CELLS, f_JUMP_BITS, f_IMMEDIATE_BITS, f_FAR, f_capacity, f_depth, f_firstShortBits, f_firstLoadBits, f_shortBits, f_loadBits, f_count, f_size, f_literalRuns, f_assembled, a_lineOp, a_lineA, a_lineB, a_labels, a_addresses, a_via, a_cells, a_kinds, a_keys, a_data, a_stack, a_held, a_spot, a_state) (nI s) (nI 12) (nI a) b := by
  unfold wpX_execute
  refine nm_e (br_f (by decide) (br_f (by decide) (br_f (by decide) (br_f (by decide) (br_f (by decide) (br_t rfl ?_))))))
  exact ci_back_ok hs hh8 eh hp
theorem ci_ex_ret_trap {post : SX → Prop} {s a : Nat} {b : Int32} (hs : s < 2) (eh : a_held s = nI 0)
    (hp : post (f_HALT, f_MOVE, f_ADD, f_SUB, f_MUL, f_LOAD, f_STORE, f_CONST, f_JUMP, f_BZ, f_BN, f_CALL, f_RET, f_POOL, f_VENEER, f_AROUND, f_LITERAL, f_DIRECT, f_WAITING, f_CELLS, f_JUMP_BITS, f_IMMEDIATE_BITS, f_FAR, f_capacity, f_depth, f_firstShortBits, f_firstLoadBits, f_shortBits, f_loadBits, f_count, f_size, f_literalRuns, f_assembled, a_lineOp, a_lineA, a_lineB, a_labels, a_addresses, a_via, a_cells, a_kinds, a_keys, a_data, a_stack, a_held, a_spot, upd a_state s 3)) : wpX_execute post (f_HALT, f_MOVE, f_ADD, f_SUB, f_MUL, f_LOAD, f_STORE, f_CONST, f_JUMP, f_BZ, f_BN, f_CALL, f_RET, f_POOL, f_VENEER, f_AROUND, f_LITERAL, f_DIRECT, f_WAITING, f_CELLS, f_JUMP_BITS, f_IMMEDIATE_BITS, f_FAR, f_capacity, f_depth, f_firstShortBits, f_firstLoadBits, f_shortBits, f_loadBits, f_count, f_size, f_literalRuns, f_assembled, a_lineOp, a_lineA, a_lineB, a_labels, a_addresses, a_via, a_cells, a_kinds, a_keys, a_data, a_stack, a_held, a_spot, a_state) (nI s) (nI 12) (nI a) b := by
  unfold wpX_execute
  refine nm_e (br_f (by decide) (br_f (by decide) (br_f (by decide) (br_f (by decide) (br_f (by decide) (br_t rfl ?_))))))
  exact ci_back_trap hs eh hp
def ci_jmp (o : Nat) (x : Int32) : Prop := o = 8 ∨ (o = 9 ∧ x = 0) ∨ (o = 10 ∧ ¬ 0 ≤ x)
theorem ci_ex_jump {post : SX → Prop} {o s a : Nat} {b : Int32} (hs : s < 2) (ha : a < 8) (hj : ci_jmp o (a_data (s * 24 + a))) (h : post (f_HALT, f_MOVE, f_ADD, f_SUB, f_MUL, f_LOAD, f_STORE, f_CONST, f_JUMP, f_BZ, f_BN, f_CALL, f_RET, f_POOL, f_VENEER, f_AROUND, f_LITERAL, f_DIRECT, f_WAITING, f_CELLS, f_JUMP_BITS, f_IMMEDIATE_BITS, f_FAR, f_capacity, f_depth, f_firstShortBits, f_firstLoadBits, f_shortBits, f_loadBits, f_count, f_size, f_literalRuns, f_assembled, a_lineOp, a_lineA, a_lineB, a_labels, a_addresses, a_via, a_cells, a_kinds, a_keys, a_data, a_stack, a_held, upd a_spot s b, a_state)) : wpX_execute post (f_HALT, f_MOVE, f_ADD, f_SUB, f_MUL, f_LOAD, f_STORE, f_CONST, f_JUMP, f_BZ, f_BN, f_CALL, f_RET, f_POOL, f_VENEER, f_AROUND, f_LITERAL, f_DIRECT, f_WAITING, f_CELLS, f_JUMP_BITS, f_IMMEDIATE_BITS, f_FAR, f_capacity, f_depth, f_firstShortBits, f_firstLoadBits, f_shortBits, f_loadBits, f_count, f_size, f_literalRuns, f_assembled, a_lineOp, a_lineA, a_lineB, a_labels, a_addresses, a_via, a_cells, a_kinds, a_keys, a_data, a_stack, a_held, a_spot, a_state) (nI s) (nI o) (nI a) b := by
  have es : (nI s).toNatClampNeg = s := nI_clamp (by omega)
  have vs : vp_in (nI s) 2 := vp_in_nI hs (by decide)
  have ea : (nI (s * 24 + a)).toNatClampNeg = s * 24 + a := nI_clamp (by omega)
  have va : vp_in (nI (s * 24 + a)) 48 := vp_in_nI (by omega) (by decide)
  have K : ∀ n : Nat, ¬ nI n = 0 → ¬ nI n = 11 → ¬ nI n = 12 → wX_execute_46 post (nI s) (nI n) b (nI (s * 24 + a)) f_HALT f_MOVE f_ADD f_SUB f_MUL f_LOAD f_STORE f_CONST f_JUMP f_BZ f_BN f_CALL f_RET f_POOL f_VENEER f_AROUND f_LITERAL f_DIRECT f_WAITING f_CELLS f_JUMP_BITS f_IMMEDIATE_BITS f_FAR f_capacity f_depth f_firstShortBits f_firstLoadBits f_shortBits f_loadBits f_count f_size f_literalRuns f_assembled a_lineOp a_lineA a_lineB a_labels a_addresses a_via a_cells a_kinds a_keys a_data a_stack a_held a_spot a_state := fun n n0 n11 n12 =>
    br_f n0 (br_f n11 (br_f n12 (br_f (by decide) ⟨vs, nm_r (e' := upd a_spot s b) (by rw [es]) h⟩)))
  unfold wpX_execute
  refine nm_r ci_x5 ?_
  rcases hj with rfl | ⟨rfl, hj⟩ | ⟨rfl, hj⟩
  · exact br_t rfl (K 8 (by decide) (by decide) (by decide))
  · exact br_f (by decide) (br_t rfl ⟨va, br_t (by rw [ea]; exact hj) (K 9 (by decide) (by decide) (by decide))⟩)
  · exact br_f (by decide) (br_f (by decide) (br_t rfl ⟨va, br_f (by rw [ea]; exact hj) (K 10 (by decide) (by decide) (by decide))⟩))
theorem ci_ex_comp {post : SX → Prop} {o s a j k : Nat} {b : Int32} (hs : s < 2) (ha : a < 8) (h0 : 0 < o) (h1 : o < 11) (hn : ¬ ci_jmp o (a_data (s * 24 + a)))
    (hj : b &&& 7 = nI j) (hj8 : j < 8) (hk : a_data (s * 24 + j) &&& 15 = nI k) (hk16 : k < 16)
    (h : post (f_HALT, f_MOVE, f_ADD, f_SUB, f_MUL, f_LOAD, f_STORE, f_CONST, f_JUMP, f_BZ, f_BN, f_CALL, f_RET, f_POOL, f_VENEER, f_AROUND, f_LITERAL, f_DIRECT, f_WAITING, f_CELLS, f_JUMP_BITS, f_IMMEDIATE_BITS, f_FAR, f_capacity, f_depth, f_firstShortBits, f_firstLoadBits, f_shortBits, f_loadBits, f_count, f_size, f_literalRuns, f_assembled, a_lineOp, a_lineA, a_lineB, a_labels, a_addresses, a_via, a_cells, a_kinds, a_keys, ci_cp o a_data (s * 24 + a) (s * 24 + 8 + k) (a_data (s * 24 + j)) b, a_stack, a_held, upd a_spot s (a_spot s + 1), a_state)) : wpX_execute post (f_HALT, f_MOVE, f_ADD, f_SUB, f_MUL, f_LOAD, f_STORE, f_CONST, f_JUMP, f_BZ, f_BN, f_CALL, f_RET, f_POOL, f_VENEER, f_AROUND, f_LITERAL, f_DIRECT, f_WAITING, f_CELLS, f_JUMP_BITS, f_IMMEDIATE_BITS, f_FAR, f_capacity, f_depth, f_firstShortBits, f_firstLoadBits, f_shortBits, f_loadBits, f_count, f_size, f_literalRuns, f_assembled, a_lineOp, a_lineA, a_lineB, a_labels, a_addresses, a_via, a_cells, a_kinds, a_keys, a_data, a_stack, a_held, a_spot, a_state) (nI s) (nI o) (nI a) b := by
  have es : (nI s).toNatClampNeg = s := nI_clamp (by omega)
  have vs : vp_in (nI s) 2 := vp_in_nI hs (by decide)
  have ea : (nI (s * 24 + a)).toNatClampNeg = s * 24 + a := nI_clamp (by omega)
  have va : vp_in (nI (s * 24 + a)) 48 := vp_in_nI (by omega) (by decide)
  have K : wX_execute_51 post (nI s) (nI o) b (nI (s * 24 + a)) 0 f_HALT f_MOVE f_ADD f_SUB f_MUL f_LOAD f_STORE f_CONST f_JUMP f_BZ f_BN f_CALL f_RET f_POOL f_VENEER f_AROUND f_LITERAL f_DIRECT f_WAITING f_CELLS f_JUMP_BITS f_IMMEDIATE_BITS f_FAR f_capacity f_depth f_firstShortBits f_firstLoadBits f_shortBits f_loadBits f_count f_size f_literalRuns f_assembled a_lineOp a_lineA a_lineB a_labels a_addresses a_via a_cells a_kinds a_keys a_data a_stack a_held a_spot a_state := by
    refine br_f (nI_ne0 h0 (by omega)) (br_f (fun e => ?_) (br_f (fun e => ?_) (br_t rfl ?_)))
    · have e2 : nI o = nI 11 := e
      rw [nI_eq (by omega) (by omega)] at e2
      omega
    · have e2 : nI o = nI 12 := e
      rw [nI_eq (by omega) (by omega)] at e2
      omega
    · rw [show nI s * 24 = nI (s * 24) from pk_mul s 24]
      refine ci_compute (by omega) hs (by omega) hj hj8 hk hk16 ?_
      exact ⟨vs, vs, nm_r (e' := upd a_spot s (a_spot s + 1)) (by rw [es]) h⟩
  have K30 : (¬ o = 10 ∨ 0 ≤ a_data (s * 24 + a)) → wX_execute_30 post (nI s) (nI o) b (nI (s * 24 + a)) f_HALT f_MOVE f_ADD f_SUB f_MUL f_LOAD f_STORE f_CONST f_JUMP f_BZ f_BN f_CALL f_RET f_POOL f_VENEER f_AROUND f_LITERAL f_DIRECT f_WAITING f_CELLS f_JUMP_BITS f_IMMEDIATE_BITS f_FAR f_capacity f_depth f_firstShortBits f_firstLoadBits f_shortBits f_loadBits f_count f_size f_literalRuns f_assembled a_lineOp a_lineA a_lineB a_labels a_addresses a_via a_cells a_kinds a_keys a_data a_stack a_held a_spot a_state := by
    intro z
    refine br_c (fun e => ⟨va, ?_⟩) (fun _ => K)
    have e2 : nI o = nI 10 := e
    rw [nI_eq (by omega) (by omega)] at e2
    rcases z with z | z
    · exact absurd e2 z
    · exact br_t (by rw [ea]; exact z) K
  have z : ¬ o = 10 ∨ 0 ≤ a_data (s * 24 + a) := by
    by_cases z1 : o = 10
    · by_cases z2 : 0 ≤ a_data (s * 24 + a)
      · exact Or.inr z2
      · exact absurd (Or.inr (Or.inr ⟨z1, z2⟩)) hn
    · exact Or.inl z1
  unfold wpX_execute
  refine nm_r ci_x5 ?_
  refine br_f (fun e => ?_) (br_c (fun e => ⟨va, br_f (fun d => ?_) (K30 z)⟩) (fun _ => K30 z))
  · have e2 : nI o = nI 8 := e
    rw [nI_eq (by omega) (by omega)] at e2
    exact hn (Or.inl e2)
  · have e2 : nI o = nI 9 := e
    rw [nI_eq (by omega) (by omega)] at e2
    rw [ea] at d
    exact hn (Or.inr (Or.inl ⟨e2, d⟩))
end
section
variable {g_capacity g_depth g_assembled g_count : Int32} {b_ops b_as b_bs b_bound b_labelLine b_cells b_stack b_entries b_at b_state : Nat → Int32}
theorem cy_345a {post : SY → Prop} {s o h : Nat} {x10 : Int32} (hs : s < 2) (ho : ¬ nI o = 12) (hp : post (g_capacity, g_depth, g_assembled, g_count, b_ops, b_as, b_bs, b_bound, b_labelLine, b_cells, b_stack, b_entries, upd b_at s x10, b_state)) : wY_step_345 post (nI s) (nI o) (nI h) x10 g_capacity g_depth g_assembled g_count b_ops b_as b_bs b_bound b_labelLine b_cells b_stack b_entries b_at b_state := by
  have es : (nI s).toNatClampNeg = s := nI_clamp (by omega)
  have vs : vp_in (nI s) 2 := vp_in_nI hs (by decide)
  exact br_f ho ⟨vs, nm_r (e' := upd b_at s x10) (by rw [es]) hp⟩
theorem cy_halt {post : SY → Prop} {s p c : Nat} (hs : s < 2) (hc : c ≤ 48) (ep : b_at s = nI p) (hpc : p ≤ c) (z : p < c → b_ops p = 0) (hp : post (g_capacity, g_depth, g_assembled, nI c, b_ops, b_as, b_bs, b_bound, b_labelLine, b_cells, b_stack, b_entries, b_at, upd b_state s 2)) : wpY_step post (g_capacity, g_depth, g_assembled, nI c, b_ops, b_as, b_bs, b_bound, b_labelLine, b_cells, b_stack, b_entries, b_at, b_state) (nI s) := by
  have es : (nI s).toNatClampNeg = s := nI_clamp (by omega)
  have vs : vp_in (nI s) 2 := vp_in_nI hs (by decide)
  unfold wpY_step
  refine And.intro vs (nm_r (e' := nI p) (by rw [es]; exact ep) ?_)
  refine br_c (fun _ => ⟨vs, nm_r (e' := upd b_state s 2) (by rw [es]) hp⟩) (fun c1 => ?_)
  rw [nI_leI (by omega) (by omega)] at c1
  refine ⟨vp_in_nI (by omega) (by decide), br_t ?_ ⟨vs, nm_r (e' := upd b_state s 2) (by rw [es]) hp⟩⟩
  rw [nI_clamp (by omega)]
  exact z (by omega)
theorem cy_arith1 {post : SY → Prop} {s p c a j k l h9 : Nat} {tg : Int32} (hs : s < 2) (hc : c ≤ 48) (ep : b_at s = nI p) (hpc : p < c) (eo : b_ops p = nI 1) (ea0 : b_as p = nI a) (ha : a < 8)
    (hj : b_bs p &&& 7 = nI j) (hj8 : j < 8) (hk : b_cells (s * 24 + j) &&& 15 = nI k) (hk16 : k < 16) (hl : b_bs p &&& 15 = nI l) (hl16 : l < 16) (et : b_labelLine l = tg) (eh : b_entries s = nI h9)
    (h : wY_step_244 post (nI s) (nI p) (nI 1) (b_cells (s * 24 + a)) tg (nI h9) (nI (p + 1)) g_capacity g_depth g_assembled (nI c) b_ops b_as b_bs b_bound b_labelLine (ci_cp 1 b_cells (s * 24 + a) (s * 24 + 8 + k) (b_cells (s * 24 + j)) (b_bs p)) b_stack b_entries b_at b_state) : wpY_step post (g_capacity, g_depth, g_assembled, nI c, b_ops, b_as, b_bs, b_bound, b_labelLine, b_cells, b_stack, b_entries, b_at, b_state) (nI s) := by
  have es : (nI s).toNatClampNeg = s := nI_clamp (by omega)
  have vs : vp_in (nI s) 2 := vp_in_nI hs (by decide)
  have epp : (nI p).toNatClampNeg = p := nI_clamp (by omega)
  have vp : vp_in (nI p) 48 := vp_in_nI (by omega) (by decide)
  have ea : (nI (s * 24 + a)).toNatClampNeg = s * 24 + a := nI_clamp (by omega)
  have em : (nI (s * 24 + 8 + k)).toNatClampNeg = s * 24 + 8 + k := nI_clamp (by omega)
  have va : vp_in (nI (s * 24 + a)) 48 := vp_in_nI (by omega) (by decide)
  have vm : vp_in (nI (s * 24 + 8 + k)) 48 := vp_in_nI (by omega) (by decide)
  have e24 : nI s * 24 = nI (s * 24) := pk_mul s 24
  have ejj : nI s * 24 + (b_bs p &&& 7) = nI (s * 24 + j) := by rw [hj]; exact ci_x5
  have eM : nI s * 24 + 8 + (b_cells (s * 24 + j) &&& 15) = nI (s * 24 + 8 + k) := by rw [hk, e24, show nI (s * 24) + 8 = nI (s * 24 + 8) from nI_add _ 8, nI_add]
  unfold wpY_step
  refine And.intro vs (nm_r (e' := nI p) (by rw [es]; exact ep) ?_)
  refine br_f (nI_ge hpc (by omega)) ?_
  rw [epp]
  refine ⟨vp, br_f (by rw [eo]; decide) ⟨vp, nm_r (e' := nI 1) eo ⟨vp, nm_r (e' := nI (s * 24 + a)) (by rw [ea0]; exact ci_x5) ⟨va, nm_r (e' := b_cells (s * 24 + a)) (by rw [ea]) ⟨vp, ?_⟩⟩⟩⟩⟩
  rw [ejj]
  refine ⟨vp_in_nI (by omega) (by decide), nm_r (e' := b_cells (s * 24 + j)) (by rw [nI_clamp (by omega)]) (nm_r eM ⟨vp, ?_⟩)⟩
  rw [hl]
  refine ⟨vp_in_nI (by omega) (by decide), nm_r (e' := tg) (by rw [nI_clamp (by omega)]; exact et) ⟨vs, nm_r (e' := nI h9) (by rw [es]; exact eh) (nm_r (nI_1 p) ?_)⟩⟩
  exact br_t rfl ⟨va, nm_r (e' := upd b_cells (s * 24 + a) (b_cells (s * 24 + j))) (by rw [ea]) (br_f (by decide) (br_f (by decide) (br_f (by decide) (br_f (by decide) (br_f (by decide) (br_f (by decide) (h)))))))⟩
theorem cy_arith2 {post : SY → Prop} {s p c a j k l h9 : Nat} {tg : Int32} (hs : s < 2) (hc : c ≤ 48) (ep : b_at s = nI p) (hpc : p < c) (eo : b_ops p = nI 2) (ea0 : b_as p = nI a) (ha : a < 8)
    (hj : b_bs p &&& 7 = nI j) (hj8 : j < 8) (hk : b_cells (s * 24 + j) &&& 15 = nI k) (hk16 : k < 16) (hl : b_bs p &&& 15 = nI l) (hl16 : l < 16) (et : b_labelLine l = tg) (eh : b_entries s = nI h9)
    (h : wY_step_244 post (nI s) (nI p) (nI 2) (b_cells (s * 24 + a)) tg (nI h9) (nI (p + 1)) g_capacity g_depth g_assembled (nI c) b_ops b_as b_bs b_bound b_labelLine (ci_cp 2 b_cells (s * 24 + a) (s * 24 + 8 + k) (b_cells (s * 24 + j)) (b_bs p)) b_stack b_entries b_at b_state) : wpY_step post (g_capacity, g_depth, g_assembled, nI c, b_ops, b_as, b_bs, b_bound, b_labelLine, b_cells, b_stack, b_entries, b_at, b_state) (nI s) := by
  have es : (nI s).toNatClampNeg = s := nI_clamp (by omega)
  have vs : vp_in (nI s) 2 := vp_in_nI hs (by decide)
  have epp : (nI p).toNatClampNeg = p := nI_clamp (by omega)
  have vp : vp_in (nI p) 48 := vp_in_nI (by omega) (by decide)
  have ea : (nI (s * 24 + a)).toNatClampNeg = s * 24 + a := nI_clamp (by omega)
  have em : (nI (s * 24 + 8 + k)).toNatClampNeg = s * 24 + 8 + k := nI_clamp (by omega)
  have va : vp_in (nI (s * 24 + a)) 48 := vp_in_nI (by omega) (by decide)
  have vm : vp_in (nI (s * 24 + 8 + k)) 48 := vp_in_nI (by omega) (by decide)
  have e24 : nI s * 24 = nI (s * 24) := pk_mul s 24
  have ejj : nI s * 24 + (b_bs p &&& 7) = nI (s * 24 + j) := by rw [hj]; exact ci_x5
  have eM : nI s * 24 + 8 + (b_cells (s * 24 + j) &&& 15) = nI (s * 24 + 8 + k) := by rw [hk, e24, show nI (s * 24) + 8 = nI (s * 24 + 8) from nI_add _ 8, nI_add]
  unfold wpY_step
  refine And.intro vs (nm_r (e' := nI p) (by rw [es]; exact ep) ?_)
  refine br_f (nI_ge hpc (by omega)) ?_
  rw [epp]
  refine ⟨vp, br_f (by rw [eo]; decide) ⟨vp, nm_r (e' := nI 2) eo ⟨vp, nm_r (e' := nI (s * 24 + a)) (by rw [ea0]; exact ci_x5) ⟨va, nm_r (e' := b_cells (s * 24 + a)) (by rw [ea]) ⟨vp, ?_⟩⟩⟩⟩⟩
  rw [ejj]
  refine ⟨vp_in_nI (by omega) (by decide), nm_r (e' := b_cells (s * 24 + j)) (by rw [nI_clamp (by omega)]) (nm_r eM ⟨vp, ?_⟩)⟩
  rw [hl]
  refine ⟨vp_in_nI (by omega) (by decide), nm_r (e' := tg) (by rw [nI_clamp (by omega)]; exact et) ⟨vs, nm_r (e' := nI h9) (by rw [es]; exact eh) (nm_r (nI_1 p) ?_)⟩⟩
  exact br_f (by decide) (br_t rfl ⟨va, nm_r (e' := upd b_cells (s * 24 + a) (b_cells (s * 24 + a) + (b_cells (s * 24 + j)))) (by rw [ea]) (br_f (by decide) (br_f (by decide) (br_f (by decide) (br_f (by decide) (br_f (by decide) (h))))))⟩)
theorem cy_arith3 {post : SY → Prop} {s p c a j k l h9 : Nat} {tg : Int32} (hs : s < 2) (hc : c ≤ 48) (ep : b_at s = nI p) (hpc : p < c) (eo : b_ops p = nI 3) (ea0 : b_as p = nI a) (ha : a < 8)
    (hj : b_bs p &&& 7 = nI j) (hj8 : j < 8) (hk : b_cells (s * 24 + j) &&& 15 = nI k) (hk16 : k < 16) (hl : b_bs p &&& 15 = nI l) (hl16 : l < 16) (et : b_labelLine l = tg) (eh : b_entries s = nI h9)
    (h : wY_step_244 post (nI s) (nI p) (nI 3) (b_cells (s * 24 + a)) tg (nI h9) (nI (p + 1)) g_capacity g_depth g_assembled (nI c) b_ops b_as b_bs b_bound b_labelLine (ci_cp 3 b_cells (s * 24 + a) (s * 24 + 8 + k) (b_cells (s * 24 + j)) (b_bs p)) b_stack b_entries b_at b_state) : wpY_step post (g_capacity, g_depth, g_assembled, nI c, b_ops, b_as, b_bs, b_bound, b_labelLine, b_cells, b_stack, b_entries, b_at, b_state) (nI s) := by
  have es : (nI s).toNatClampNeg = s := nI_clamp (by omega)
  have vs : vp_in (nI s) 2 := vp_in_nI hs (by decide)
  have epp : (nI p).toNatClampNeg = p := nI_clamp (by omega)
  have vp : vp_in (nI p) 48 := vp_in_nI (by omega) (by decide)
  have ea : (nI (s * 24 + a)).toNatClampNeg = s * 24 + a := nI_clamp (by omega)
  have em : (nI (s * 24 + 8 + k)).toNatClampNeg = s * 24 + 8 + k := nI_clamp (by omega)
  have va : vp_in (nI (s * 24 + a)) 48 := vp_in_nI (by omega) (by decide)
  have vm : vp_in (nI (s * 24 + 8 + k)) 48 := vp_in_nI (by omega) (by decide)
  have e24 : nI s * 24 = nI (s * 24) := pk_mul s 24
  have ejj : nI s * 24 + (b_bs p &&& 7) = nI (s * 24 + j) := by rw [hj]; exact ci_x5
  have eM : nI s * 24 + 8 + (b_cells (s * 24 + j) &&& 15) = nI (s * 24 + 8 + k) := by rw [hk, e24, show nI (s * 24) + 8 = nI (s * 24 + 8) from nI_add _ 8, nI_add]
  unfold wpY_step
  refine And.intro vs (nm_r (e' := nI p) (by rw [es]; exact ep) ?_)
  refine br_f (nI_ge hpc (by omega)) ?_
  rw [epp]
  refine ⟨vp, br_f (by rw [eo]; decide) ⟨vp, nm_r (e' := nI 3) eo ⟨vp, nm_r (e' := nI (s * 24 + a)) (by rw [ea0]; exact ci_x5) ⟨va, nm_r (e' := b_cells (s * 24 + a)) (by rw [ea]) ⟨vp, ?_⟩⟩⟩⟩⟩
  rw [ejj]
  refine ⟨vp_in_nI (by omega) (by decide), nm_r (e' := b_cells (s * 24 + j)) (by rw [nI_clamp (by omega)]) (nm_r eM ⟨vp, ?_⟩)⟩
  rw [hl]
  refine ⟨vp_in_nI (by omega) (by decide), nm_r (e' := tg) (by rw [nI_clamp (by omega)]; exact et) ⟨vs, nm_r (e' := nI h9) (by rw [es]; exact eh) (nm_r (nI_1 p) ?_)⟩⟩
  exact br_f (by decide) (br_f (by decide) (br_t rfl ⟨va, nm_r (e' := upd b_cells (s * 24 + a) (b_cells (s * 24 + a) - (b_cells (s * 24 + j)))) (by rw [ea]) (br_f (by decide) (br_f (by decide) (br_f (by decide) (br_f (by decide) (h)))))⟩))
theorem cy_arith4 {post : SY → Prop} {s p c a j k l h9 : Nat} {tg : Int32} (hs : s < 2) (hc : c ≤ 48) (ep : b_at s = nI p) (hpc : p < c) (eo : b_ops p = nI 4) (ea0 : b_as p = nI a) (ha : a < 8)
    (hj : b_bs p &&& 7 = nI j) (hj8 : j < 8) (hk : b_cells (s * 24 + j) &&& 15 = nI k) (hk16 : k < 16) (hl : b_bs p &&& 15 = nI l) (hl16 : l < 16) (et : b_labelLine l = tg) (eh : b_entries s = nI h9)
    (h : wY_step_244 post (nI s) (nI p) (nI 4) (b_cells (s * 24 + a)) tg (nI h9) (nI (p + 1)) g_capacity g_depth g_assembled (nI c) b_ops b_as b_bs b_bound b_labelLine (ci_cp 4 b_cells (s * 24 + a) (s * 24 + 8 + k) (b_cells (s * 24 + j)) (b_bs p)) b_stack b_entries b_at b_state) : wpY_step post (g_capacity, g_depth, g_assembled, nI c, b_ops, b_as, b_bs, b_bound, b_labelLine, b_cells, b_stack, b_entries, b_at, b_state) (nI s) := by
  have es : (nI s).toNatClampNeg = s := nI_clamp (by omega)
  have vs : vp_in (nI s) 2 := vp_in_nI hs (by decide)
  have epp : (nI p).toNatClampNeg = p := nI_clamp (by omega)
  have vp : vp_in (nI p) 48 := vp_in_nI (by omega) (by decide)
  have ea : (nI (s * 24 + a)).toNatClampNeg = s * 24 + a := nI_clamp (by omega)
  have em : (nI (s * 24 + 8 + k)).toNatClampNeg = s * 24 + 8 + k := nI_clamp (by omega)
  have va : vp_in (nI (s * 24 + a)) 48 := vp_in_nI (by omega) (by decide)
  have vm : vp_in (nI (s * 24 + 8 + k)) 48 := vp_in_nI (by omega) (by decide)
  have e24 : nI s * 24 = nI (s * 24) := pk_mul s 24
  have ejj : nI s * 24 + (b_bs p &&& 7) = nI (s * 24 + j) := by rw [hj]; exact ci_x5
  have eM : nI s * 24 + 8 + (b_cells (s * 24 + j) &&& 15) = nI (s * 24 + 8 + k) := by rw [hk, e24, show nI (s * 24) + 8 = nI (s * 24 + 8) from nI_add _ 8, nI_add]
  unfold wpY_step
  refine And.intro vs (nm_r (e' := nI p) (by rw [es]; exact ep) ?_)
  refine br_f (nI_ge hpc (by omega)) ?_
  rw [epp]
  refine ⟨vp, br_f (by rw [eo]; decide) ⟨vp, nm_r (e' := nI 4) eo ⟨vp, nm_r (e' := nI (s * 24 + a)) (by rw [ea0]; exact ci_x5) ⟨va, nm_r (e' := b_cells (s * 24 + a)) (by rw [ea]) ⟨vp, ?_⟩⟩⟩⟩⟩
  rw [ejj]
  refine ⟨vp_in_nI (by omega) (by decide), nm_r (e' := b_cells (s * 24 + j)) (by rw [nI_clamp (by omega)]) (nm_r eM ⟨vp, ?_⟩)⟩
  rw [hl]
  refine ⟨vp_in_nI (by omega) (by decide), nm_r (e' := tg) (by rw [nI_clamp (by omega)]; exact et) ⟨vs, nm_r (e' := nI h9) (by rw [es]; exact eh) (nm_r (nI_1 p) ?_)⟩⟩
  exact br_f (by decide) (br_f (by decide) (br_f (by decide) (br_t rfl ⟨va, nm_r (e' := upd b_cells (s * 24 + a) (b_cells (s * 24 + a) * (b_cells (s * 24 + j)))) (by rw [ea]) (br_f (by decide) (br_f (by decide) (br_f (by decide) (h))))⟩)))
theorem cy_arith5 {post : SY → Prop} {s p c a j k l h9 : Nat} {tg : Int32} (hs : s < 2) (hc : c ≤ 48) (ep : b_at s = nI p) (hpc : p < c) (eo : b_ops p = nI 5) (ea0 : b_as p = nI a) (ha : a < 8)
    (hj : b_bs p &&& 7 = nI j) (hj8 : j < 8) (hk : b_cells (s * 24 + j) &&& 15 = nI k) (hk16 : k < 16) (hl : b_bs p &&& 15 = nI l) (hl16 : l < 16) (et : b_labelLine l = tg) (eh : b_entries s = nI h9)
    (h : wY_step_244 post (nI s) (nI p) (nI 5) (b_cells (s * 24 + a)) tg (nI h9) (nI (p + 1)) g_capacity g_depth g_assembled (nI c) b_ops b_as b_bs b_bound b_labelLine (ci_cp 5 b_cells (s * 24 + a) (s * 24 + 8 + k) (b_cells (s * 24 + j)) (b_bs p)) b_stack b_entries b_at b_state) : wpY_step post (g_capacity, g_depth, g_assembled, nI c, b_ops, b_as, b_bs, b_bound, b_labelLine, b_cells, b_stack, b_entries, b_at, b_state) (nI s) := by
  have es : (nI s).toNatClampNeg = s := nI_clamp (by omega)
  have vs : vp_in (nI s) 2 := vp_in_nI hs (by decide)
  have epp : (nI p).toNatClampNeg = p := nI_clamp (by omega)
  have vp : vp_in (nI p) 48 := vp_in_nI (by omega) (by decide)
  have ea : (nI (s * 24 + a)).toNatClampNeg = s * 24 + a := nI_clamp (by omega)
  have em : (nI (s * 24 + 8 + k)).toNatClampNeg = s * 24 + 8 + k := nI_clamp (by omega)
  have va : vp_in (nI (s * 24 + a)) 48 := vp_in_nI (by omega) (by decide)
  have vm : vp_in (nI (s * 24 + 8 + k)) 48 := vp_in_nI (by omega) (by decide)
  have e24 : nI s * 24 = nI (s * 24) := pk_mul s 24
  have ejj : nI s * 24 + (b_bs p &&& 7) = nI (s * 24 + j) := by rw [hj]; exact ci_x5
  have eM : nI s * 24 + 8 + (b_cells (s * 24 + j) &&& 15) = nI (s * 24 + 8 + k) := by rw [hk, e24, show nI (s * 24) + 8 = nI (s * 24 + 8) from nI_add _ 8, nI_add]
  unfold wpY_step
  refine And.intro vs (nm_r (e' := nI p) (by rw [es]; exact ep) ?_)
  refine br_f (nI_ge hpc (by omega)) ?_
  rw [epp]
  refine ⟨vp, br_f (by rw [eo]; decide) ⟨vp, nm_r (e' := nI 5) eo ⟨vp, nm_r (e' := nI (s * 24 + a)) (by rw [ea0]; exact ci_x5) ⟨va, nm_r (e' := b_cells (s * 24 + a)) (by rw [ea]) ⟨vp, ?_⟩⟩⟩⟩⟩
  rw [ejj]
  refine ⟨vp_in_nI (by omega) (by decide), nm_r (e' := b_cells (s * 24 + j)) (by rw [nI_clamp (by omega)]) (nm_r eM ⟨vp, ?_⟩)⟩
  rw [hl]
  refine ⟨vp_in_nI (by omega) (by decide), nm_r (e' := tg) (by rw [nI_clamp (by omega)]; exact et) ⟨vs, nm_r (e' := nI h9) (by rw [es]; exact eh) (nm_r (nI_1 p) ?_)⟩⟩
  exact br_f (by decide) (br_f (by decide) (br_f (by decide) (br_f (by decide) (br_t rfl ⟨vm, va, nm_r (e' := upd b_cells (s * 24 + a) (b_cells (s * 24 + 8 + k))) (by rw [ea, em]) (br_f (by decide) (br_f (by decide) (h)))⟩))))
theorem cy_arith6 {post : SY → Prop} {s p c a j k l h9 : Nat} {tg : Int32} (hs : s < 2) (hc : c ≤ 48) (ep : b_at s = nI p) (hpc : p < c) (eo : b_ops p = nI 6) (ea0 : b_as p = nI a) (ha : a < 8)
    (hj : b_bs p &&& 7 = nI j) (hj8 : j < 8) (hk : b_cells (s * 24 + j) &&& 15 = nI k) (hk16 : k < 16) (hl : b_bs p &&& 15 = nI l) (hl16 : l < 16) (et : b_labelLine l = tg) (eh : b_entries s = nI h9)
    (h : wY_step_244 post (nI s) (nI p) (nI 6) (b_cells (s * 24 + a)) tg (nI h9) (nI (p + 1)) g_capacity g_depth g_assembled (nI c) b_ops b_as b_bs b_bound b_labelLine (ci_cp 6 b_cells (s * 24 + a) (s * 24 + 8 + k) (b_cells (s * 24 + j)) (b_bs p)) b_stack b_entries b_at b_state) : wpY_step post (g_capacity, g_depth, g_assembled, nI c, b_ops, b_as, b_bs, b_bound, b_labelLine, b_cells, b_stack, b_entries, b_at, b_state) (nI s) := by
  have es : (nI s).toNatClampNeg = s := nI_clamp (by omega)
  have vs : vp_in (nI s) 2 := vp_in_nI hs (by decide)
  have epp : (nI p).toNatClampNeg = p := nI_clamp (by omega)
  have vp : vp_in (nI p) 48 := vp_in_nI (by omega) (by decide)
  have ea : (nI (s * 24 + a)).toNatClampNeg = s * 24 + a := nI_clamp (by omega)
  have em : (nI (s * 24 + 8 + k)).toNatClampNeg = s * 24 + 8 + k := nI_clamp (by omega)
  have va : vp_in (nI (s * 24 + a)) 48 := vp_in_nI (by omega) (by decide)
  have vm : vp_in (nI (s * 24 + 8 + k)) 48 := vp_in_nI (by omega) (by decide)
  have e24 : nI s * 24 = nI (s * 24) := pk_mul s 24
  have ejj : nI s * 24 + (b_bs p &&& 7) = nI (s * 24 + j) := by rw [hj]; exact ci_x5
  have eM : nI s * 24 + 8 + (b_cells (s * 24 + j) &&& 15) = nI (s * 24 + 8 + k) := by rw [hk, e24, show nI (s * 24) + 8 = nI (s * 24 + 8) from nI_add _ 8, nI_add]
  unfold wpY_step
  refine And.intro vs (nm_r (e' := nI p) (by rw [es]; exact ep) ?_)
  refine br_f (nI_ge hpc (by omega)) ?_
  rw [epp]
  refine ⟨vp, br_f (by rw [eo]; decide) ⟨vp, nm_r (e' := nI 6) eo ⟨vp, nm_r (e' := nI (s * 24 + a)) (by rw [ea0]; exact ci_x5) ⟨va, nm_r (e' := b_cells (s * 24 + a)) (by rw [ea]) ⟨vp, ?_⟩⟩⟩⟩⟩
  rw [ejj]
  refine ⟨vp_in_nI (by omega) (by decide), nm_r (e' := b_cells (s * 24 + j)) (by rw [nI_clamp (by omega)]) (nm_r eM ⟨vp, ?_⟩)⟩
  rw [hl]
  refine ⟨vp_in_nI (by omega) (by decide), nm_r (e' := tg) (by rw [nI_clamp (by omega)]; exact et) ⟨vs, nm_r (e' := nI h9) (by rw [es]; exact eh) (nm_r (nI_1 p) ?_)⟩⟩
  exact br_f (by decide) (br_f (by decide) (br_f (by decide) (br_f (by decide) (br_f (by decide) (br_t rfl ⟨vm, nm_r (e' := upd b_cells (s * 24 + 8 + k) (b_cells (s * 24 + a))) (by rw [em]) (br_f (by decide) (h))⟩)))))
theorem cy_arith7 {post : SY → Prop} {s p c a j k l h9 : Nat} {tg : Int32} (hs : s < 2) (hc : c ≤ 48) (ep : b_at s = nI p) (hpc : p < c) (eo : b_ops p = nI 7) (ea0 : b_as p = nI a) (ha : a < 8)
    (hj : b_bs p &&& 7 = nI j) (hj8 : j < 8) (hk : b_cells (s * 24 + j) &&& 15 = nI k) (hk16 : k < 16) (hl : b_bs p &&& 15 = nI l) (hl16 : l < 16) (et : b_labelLine l = tg) (eh : b_entries s = nI h9)
    (h : wY_step_244 post (nI s) (nI p) (nI 7) (b_cells (s * 24 + a)) tg (nI h9) (nI (p + 1)) g_capacity g_depth g_assembled (nI c) b_ops b_as b_bs b_bound b_labelLine (ci_cp 7 b_cells (s * 24 + a) (s * 24 + 8 + k) (b_cells (s * 24 + j)) (b_bs p)) b_stack b_entries b_at b_state) : wpY_step post (g_capacity, g_depth, g_assembled, nI c, b_ops, b_as, b_bs, b_bound, b_labelLine, b_cells, b_stack, b_entries, b_at, b_state) (nI s) := by
  have es : (nI s).toNatClampNeg = s := nI_clamp (by omega)
  have vs : vp_in (nI s) 2 := vp_in_nI hs (by decide)
  have epp : (nI p).toNatClampNeg = p := nI_clamp (by omega)
  have vp : vp_in (nI p) 48 := vp_in_nI (by omega) (by decide)
  have ea : (nI (s * 24 + a)).toNatClampNeg = s * 24 + a := nI_clamp (by omega)
  have em : (nI (s * 24 + 8 + k)).toNatClampNeg = s * 24 + 8 + k := nI_clamp (by omega)
  have va : vp_in (nI (s * 24 + a)) 48 := vp_in_nI (by omega) (by decide)
  have vm : vp_in (nI (s * 24 + 8 + k)) 48 := vp_in_nI (by omega) (by decide)
  have e24 : nI s * 24 = nI (s * 24) := pk_mul s 24
  have ejj : nI s * 24 + (b_bs p &&& 7) = nI (s * 24 + j) := by rw [hj]; exact ci_x5
  have eM : nI s * 24 + 8 + (b_cells (s * 24 + j) &&& 15) = nI (s * 24 + 8 + k) := by rw [hk, e24, show nI (s * 24) + 8 = nI (s * 24 + 8) from nI_add _ 8, nI_add]
  unfold wpY_step
  refine And.intro vs (nm_r (e' := nI p) (by rw [es]; exact ep) ?_)
  refine br_f (nI_ge hpc (by omega)) ?_
  rw [epp]
  refine ⟨vp, br_f (by rw [eo]; decide) ⟨vp, nm_r (e' := nI 7) eo ⟨vp, nm_r (e' := nI (s * 24 + a)) (by rw [ea0]; exact ci_x5) ⟨va, nm_r (e' := b_cells (s * 24 + a)) (by rw [ea]) ⟨vp, ?_⟩⟩⟩⟩⟩
  rw [ejj]
  refine ⟨vp_in_nI (by omega) (by decide), nm_r (e' := b_cells (s * 24 + j)) (by rw [nI_clamp (by omega)]) (nm_r eM ⟨vp, ?_⟩)⟩
  rw [hl]
  refine ⟨vp_in_nI (by omega) (by decide), nm_r (e' := tg) (by rw [nI_clamp (by omega)]; exact et) ⟨vs, nm_r (e' := nI h9) (by rw [es]; exact eh) (nm_r (nI_1 p) ?_)⟩⟩
  exact br_f (by decide) (br_f (by decide) (br_f (by decide) (br_f (by decide) (br_f (by decide) (br_f (by decide) (br_t rfl ⟨vp, va, nm_r (e' := upd b_cells (s * 24 + a) (b_bs p)) (by rw [ea, epp]) (h)⟩))))))
theorem cy_arith8 {post : SY → Prop} {s p c a j k l h9 : Nat} {tg : Int32} (hs : s < 2) (hc : c ≤ 48) (ep : b_at s = nI p) (hpc : p < c) (eo : b_ops p = nI 8) (ea0 : b_as p = nI a) (ha : a < 8)
    (hj : b_bs p &&& 7 = nI j) (hj8 : j < 8) (hk : b_cells (s * 24 + j) &&& 15 = nI k) (hk16 : k < 16) (hl : b_bs p &&& 15 = nI l) (hl16 : l < 16) (et : b_labelLine l = tg) (eh : b_entries s = nI h9)
    (h : wY_step_244 post (nI s) (nI p) (nI 8) (b_cells (s * 24 + a)) tg (nI h9) (nI (p + 1)) g_capacity g_depth g_assembled (nI c) b_ops b_as b_bs b_bound b_labelLine (ci_cp 8 b_cells (s * 24 + a) (s * 24 + 8 + k) (b_cells (s * 24 + j)) (b_bs p)) b_stack b_entries b_at b_state) : wpY_step post (g_capacity, g_depth, g_assembled, nI c, b_ops, b_as, b_bs, b_bound, b_labelLine, b_cells, b_stack, b_entries, b_at, b_state) (nI s) := by
  have es : (nI s).toNatClampNeg = s := nI_clamp (by omega)
  have vs : vp_in (nI s) 2 := vp_in_nI hs (by decide)
  have epp : (nI p).toNatClampNeg = p := nI_clamp (by omega)
  have vp : vp_in (nI p) 48 := vp_in_nI (by omega) (by decide)
  have ea : (nI (s * 24 + a)).toNatClampNeg = s * 24 + a := nI_clamp (by omega)
  have em : (nI (s * 24 + 8 + k)).toNatClampNeg = s * 24 + 8 + k := nI_clamp (by omega)
  have va : vp_in (nI (s * 24 + a)) 48 := vp_in_nI (by omega) (by decide)
  have vm : vp_in (nI (s * 24 + 8 + k)) 48 := vp_in_nI (by omega) (by decide)
  have e24 : nI s * 24 = nI (s * 24) := pk_mul s 24
  have ejj : nI s * 24 + (b_bs p &&& 7) = nI (s * 24 + j) := by rw [hj]; exact ci_x5
  have eM : nI s * 24 + 8 + (b_cells (s * 24 + j) &&& 15) = nI (s * 24 + 8 + k) := by rw [hk, e24, show nI (s * 24) + 8 = nI (s * 24 + 8) from nI_add _ 8, nI_add]
  unfold wpY_step
  refine And.intro vs (nm_r (e' := nI p) (by rw [es]; exact ep) ?_)
  refine br_f (nI_ge hpc (by omega)) ?_
  rw [epp]
  refine ⟨vp, br_f (by rw [eo]; decide) ⟨vp, nm_r (e' := nI 8) eo ⟨vp, nm_r (e' := nI (s * 24 + a)) (by rw [ea0]; exact ci_x5) ⟨va, nm_r (e' := b_cells (s * 24 + a)) (by rw [ea]) ⟨vp, ?_⟩⟩⟩⟩⟩
  rw [ejj]
  refine ⟨vp_in_nI (by omega) (by decide), nm_r (e' := b_cells (s * 24 + j)) (by rw [nI_clamp (by omega)]) (nm_r eM ⟨vp, ?_⟩)⟩
  rw [hl]
  refine ⟨vp_in_nI (by omega) (by decide), nm_r (e' := tg) (by rw [nI_clamp (by omega)]; exact et) ⟨vs, nm_r (e' := nI h9) (by rw [es]; exact eh) (nm_r (nI_1 p) ?_)⟩⟩
  exact br_f (by decide) (br_f (by decide) (br_f (by decide) (br_f (by decide) (br_f (by decide) (br_f (by decide) (br_f (by decide) (h)))))))
theorem cy_arith9 {post : SY → Prop} {s p c a j k l h9 : Nat} {tg : Int32} (hs : s < 2) (hc : c ≤ 48) (ep : b_at s = nI p) (hpc : p < c) (eo : b_ops p = nI 9) (ea0 : b_as p = nI a) (ha : a < 8)
    (hj : b_bs p &&& 7 = nI j) (hj8 : j < 8) (hk : b_cells (s * 24 + j) &&& 15 = nI k) (hk16 : k < 16) (hl : b_bs p &&& 15 = nI l) (hl16 : l < 16) (et : b_labelLine l = tg) (eh : b_entries s = nI h9)
    (h : wY_step_244 post (nI s) (nI p) (nI 9) (b_cells (s * 24 + a)) tg (nI h9) (nI (p + 1)) g_capacity g_depth g_assembled (nI c) b_ops b_as b_bs b_bound b_labelLine (ci_cp 9 b_cells (s * 24 + a) (s * 24 + 8 + k) (b_cells (s * 24 + j)) (b_bs p)) b_stack b_entries b_at b_state) : wpY_step post (g_capacity, g_depth, g_assembled, nI c, b_ops, b_as, b_bs, b_bound, b_labelLine, b_cells, b_stack, b_entries, b_at, b_state) (nI s) := by
  have es : (nI s).toNatClampNeg = s := nI_clamp (by omega)
  have vs : vp_in (nI s) 2 := vp_in_nI hs (by decide)
  have epp : (nI p).toNatClampNeg = p := nI_clamp (by omega)
  have vp : vp_in (nI p) 48 := vp_in_nI (by omega) (by decide)
  have ea : (nI (s * 24 + a)).toNatClampNeg = s * 24 + a := nI_clamp (by omega)
  have em : (nI (s * 24 + 8 + k)).toNatClampNeg = s * 24 + 8 + k := nI_clamp (by omega)
  have va : vp_in (nI (s * 24 + a)) 48 := vp_in_nI (by omega) (by decide)
  have vm : vp_in (nI (s * 24 + 8 + k)) 48 := vp_in_nI (by omega) (by decide)
  have e24 : nI s * 24 = nI (s * 24) := pk_mul s 24
  have ejj : nI s * 24 + (b_bs p &&& 7) = nI (s * 24 + j) := by rw [hj]; exact ci_x5
  have eM : nI s * 24 + 8 + (b_cells (s * 24 + j) &&& 15) = nI (s * 24 + 8 + k) := by rw [hk, e24, show nI (s * 24) + 8 = nI (s * 24 + 8) from nI_add _ 8, nI_add]
  unfold wpY_step
  refine And.intro vs (nm_r (e' := nI p) (by rw [es]; exact ep) ?_)
  refine br_f (nI_ge hpc (by omega)) ?_
  rw [epp]
  refine ⟨vp, br_f (by rw [eo]; decide) ⟨vp, nm_r (e' := nI 9) eo ⟨vp, nm_r (e' := nI (s * 24 + a)) (by rw [ea0]; exact ci_x5) ⟨va, nm_r (e' := b_cells (s * 24 + a)) (by rw [ea]) ⟨vp, ?_⟩⟩⟩⟩⟩
  rw [ejj]
  refine ⟨vp_in_nI (by omega) (by decide), nm_r (e' := b_cells (s * 24 + j)) (by rw [nI_clamp (by omega)]) (nm_r eM ⟨vp, ?_⟩)⟩
  rw [hl]
  refine ⟨vp_in_nI (by omega) (by decide), nm_r (e' := tg) (by rw [nI_clamp (by omega)]; exact et) ⟨vs, nm_r (e' := nI h9) (by rw [es]; exact eh) (nm_r (nI_1 p) ?_)⟩⟩
  exact br_f (by decide) (br_f (by decide) (br_f (by decide) (br_f (by decide) (br_f (by decide) (br_f (by decide) (br_f (by decide) (h)))))))
theorem cy_arith10 {post : SY → Prop} {s p c a j k l h9 : Nat} {tg : Int32} (hs : s < 2) (hc : c ≤ 48) (ep : b_at s = nI p) (hpc : p < c) (eo : b_ops p = nI 10) (ea0 : b_as p = nI a) (ha : a < 8)
    (hj : b_bs p &&& 7 = nI j) (hj8 : j < 8) (hk : b_cells (s * 24 + j) &&& 15 = nI k) (hk16 : k < 16) (hl : b_bs p &&& 15 = nI l) (hl16 : l < 16) (et : b_labelLine l = tg) (eh : b_entries s = nI h9)
    (h : wY_step_244 post (nI s) (nI p) (nI 10) (b_cells (s * 24 + a)) tg (nI h9) (nI (p + 1)) g_capacity g_depth g_assembled (nI c) b_ops b_as b_bs b_bound b_labelLine (ci_cp 10 b_cells (s * 24 + a) (s * 24 + 8 + k) (b_cells (s * 24 + j)) (b_bs p)) b_stack b_entries b_at b_state) : wpY_step post (g_capacity, g_depth, g_assembled, nI c, b_ops, b_as, b_bs, b_bound, b_labelLine, b_cells, b_stack, b_entries, b_at, b_state) (nI s) := by
  have es : (nI s).toNatClampNeg = s := nI_clamp (by omega)
  have vs : vp_in (nI s) 2 := vp_in_nI hs (by decide)
  have epp : (nI p).toNatClampNeg = p := nI_clamp (by omega)
  have vp : vp_in (nI p) 48 := vp_in_nI (by omega) (by decide)
  have ea : (nI (s * 24 + a)).toNatClampNeg = s * 24 + a := nI_clamp (by omega)
  have em : (nI (s * 24 + 8 + k)).toNatClampNeg = s * 24 + 8 + k := nI_clamp (by omega)
  have va : vp_in (nI (s * 24 + a)) 48 := vp_in_nI (by omega) (by decide)
  have vm : vp_in (nI (s * 24 + 8 + k)) 48 := vp_in_nI (by omega) (by decide)
  have e24 : nI s * 24 = nI (s * 24) := pk_mul s 24
  have ejj : nI s * 24 + (b_bs p &&& 7) = nI (s * 24 + j) := by rw [hj]; exact ci_x5
  have eM : nI s * 24 + 8 + (b_cells (s * 24 + j) &&& 15) = nI (s * 24 + 8 + k) := by rw [hk, e24, show nI (s * 24) + 8 = nI (s * 24 + 8) from nI_add _ 8, nI_add]
  unfold wpY_step
  refine And.intro vs (nm_r (e' := nI p) (by rw [es]; exact ep) ?_)
  refine br_f (nI_ge hpc (by omega)) ?_
  rw [epp]
  refine ⟨vp, br_f (by rw [eo]; decide) ⟨vp, nm_r (e' := nI 10) eo ⟨vp, nm_r (e' := nI (s * 24 + a)) (by rw [ea0]; exact ci_x5) ⟨va, nm_r (e' := b_cells (s * 24 + a)) (by rw [ea]) ⟨vp, ?_⟩⟩⟩⟩⟩
  rw [ejj]
  refine ⟨vp_in_nI (by omega) (by decide), nm_r (e' := b_cells (s * 24 + j)) (by rw [nI_clamp (by omega)]) (nm_r eM ⟨vp, ?_⟩)⟩
  rw [hl]
  refine ⟨vp_in_nI (by omega) (by decide), nm_r (e' := tg) (by rw [nI_clamp (by omega)]; exact et) ⟨vs, nm_r (e' := nI h9) (by rw [es]; exact eh) (nm_r (nI_1 p) ?_)⟩⟩
  exact br_f (by decide) (br_f (by decide) (br_f (by decide) (br_f (by decide) (br_f (by decide) (br_f (by decide) (br_f (by decide) (h)))))))
theorem cy_arith11 {post : SY → Prop} {s p c a j k l h9 : Nat} {tg : Int32} (hs : s < 2) (hc : c ≤ 48) (ep : b_at s = nI p) (hpc : p < c) (eo : b_ops p = nI 11) (ea0 : b_as p = nI a) (ha : a < 8)
    (hj : b_bs p &&& 7 = nI j) (hj8 : j < 8) (hk : b_cells (s * 24 + j) &&& 15 = nI k) (hk16 : k < 16) (hl : b_bs p &&& 15 = nI l) (hl16 : l < 16) (et : b_labelLine l = tg) (eh : b_entries s = nI h9)
    (h : wY_step_244 post (nI s) (nI p) (nI 11) (b_cells (s * 24 + a)) tg (nI h9) (nI (p + 1)) g_capacity g_depth g_assembled (nI c) b_ops b_as b_bs b_bound b_labelLine (ci_cp 11 b_cells (s * 24 + a) (s * 24 + 8 + k) (b_cells (s * 24 + j)) (b_bs p)) b_stack b_entries b_at b_state) : wpY_step post (g_capacity, g_depth, g_assembled, nI c, b_ops, b_as, b_bs, b_bound, b_labelLine, b_cells, b_stack, b_entries, b_at, b_state) (nI s) := by
  have es : (nI s).toNatClampNeg = s := nI_clamp (by omega)
  have vs : vp_in (nI s) 2 := vp_in_nI hs (by decide)
  have epp : (nI p).toNatClampNeg = p := nI_clamp (by omega)
  have vp : vp_in (nI p) 48 := vp_in_nI (by omega) (by decide)
  have ea : (nI (s * 24 + a)).toNatClampNeg = s * 24 + a := nI_clamp (by omega)
  have em : (nI (s * 24 + 8 + k)).toNatClampNeg = s * 24 + 8 + k := nI_clamp (by omega)
  have va : vp_in (nI (s * 24 + a)) 48 := vp_in_nI (by omega) (by decide)
  have vm : vp_in (nI (s * 24 + 8 + k)) 48 := vp_in_nI (by omega) (by decide)
  have e24 : nI s * 24 = nI (s * 24) := pk_mul s 24
  have ejj : nI s * 24 + (b_bs p &&& 7) = nI (s * 24 + j) := by rw [hj]; exact ci_x5
  have eM : nI s * 24 + 8 + (b_cells (s * 24 + j) &&& 15) = nI (s * 24 + 8 + k) := by rw [hk, e24, show nI (s * 24) + 8 = nI (s * 24 + 8) from nI_add _ 8, nI_add]
  unfold wpY_step
  refine And.intro vs (nm_r (e' := nI p) (by rw [es]; exact ep) ?_)
  refine br_f (nI_ge hpc (by omega)) ?_
  rw [epp]
  refine ⟨vp, br_f (by rw [eo]; decide) ⟨vp, nm_r (e' := nI 11) eo ⟨vp, nm_r (e' := nI (s * 24 + a)) (by rw [ea0]; exact ci_x5) ⟨va, nm_r (e' := b_cells (s * 24 + a)) (by rw [ea]) ⟨vp, ?_⟩⟩⟩⟩⟩
  rw [ejj]
  refine ⟨vp_in_nI (by omega) (by decide), nm_r (e' := b_cells (s * 24 + j)) (by rw [nI_clamp (by omega)]) (nm_r eM ⟨vp, ?_⟩)⟩
  rw [hl]
  refine ⟨vp_in_nI (by omega) (by decide), nm_r (e' := tg) (by rw [nI_clamp (by omega)]; exact et) ⟨vs, nm_r (e' := nI h9) (by rw [es]; exact eh) (nm_r (nI_1 p) ?_)⟩⟩
  exact br_f (by decide) (br_f (by decide) (br_f (by decide) (br_f (by decide) (br_f (by decide) (br_f (by decide) (br_f (by decide) (h)))))))
theorem cy_arith12 {post : SY → Prop} {s p c a j k l h9 : Nat} {tg : Int32} (hs : s < 2) (hc : c ≤ 48) (ep : b_at s = nI p) (hpc : p < c) (eo : b_ops p = nI 12) (ea0 : b_as p = nI a) (ha : a < 8)
    (hj : b_bs p &&& 7 = nI j) (hj8 : j < 8) (hk : b_cells (s * 24 + j) &&& 15 = nI k) (hk16 : k < 16) (hl : b_bs p &&& 15 = nI l) (hl16 : l < 16) (et : b_labelLine l = tg) (eh : b_entries s = nI h9)
    (h : wY_step_244 post (nI s) (nI p) (nI 12) (b_cells (s * 24 + a)) tg (nI h9) (nI (p + 1)) g_capacity g_depth g_assembled (nI c) b_ops b_as b_bs b_bound b_labelLine (ci_cp 12 b_cells (s * 24 + a) (s * 24 + 8 + k) (b_cells (s * 24 + j)) (b_bs p)) b_stack b_entries b_at b_state) : wpY_step post (g_capacity, g_depth, g_assembled, nI c, b_ops, b_as, b_bs, b_bound, b_labelLine, b_cells, b_stack, b_entries, b_at, b_state) (nI s) := by
  have es : (nI s).toNatClampNeg = s := nI_clamp (by omega)
  have vs : vp_in (nI s) 2 := vp_in_nI hs (by decide)
  have epp : (nI p).toNatClampNeg = p := nI_clamp (by omega)
  have vp : vp_in (nI p) 48 := vp_in_nI (by omega) (by decide)
  have ea : (nI (s * 24 + a)).toNatClampNeg = s * 24 + a := nI_clamp (by omega)
  have em : (nI (s * 24 + 8 + k)).toNatClampNeg = s * 24 + 8 + k := nI_clamp (by omega)
  have va : vp_in (nI (s * 24 + a)) 48 := vp_in_nI (by omega) (by decide)
  have vm : vp_in (nI (s * 24 + 8 + k)) 48 := vp_in_nI (by omega) (by decide)
  have e24 : nI s * 24 = nI (s * 24) := pk_mul s 24
  have ejj : nI s * 24 + (b_bs p &&& 7) = nI (s * 24 + j) := by rw [hj]; exact ci_x5
  have eM : nI s * 24 + 8 + (b_cells (s * 24 + j) &&& 15) = nI (s * 24 + 8 + k) := by rw [hk, e24, show nI (s * 24) + 8 = nI (s * 24 + 8) from nI_add _ 8, nI_add]
  unfold wpY_step
  refine And.intro vs (nm_r (e' := nI p) (by rw [es]; exact ep) ?_)
  refine br_f (nI_ge hpc (by omega)) ?_
  rw [epp]
  refine ⟨vp, br_f (by rw [eo]; decide) ⟨vp, nm_r (e' := nI 12) eo ⟨vp, nm_r (e' := nI (s * 24 + a)) (by rw [ea0]; exact ci_x5) ⟨va, nm_r (e' := b_cells (s * 24 + a)) (by rw [ea]) ⟨vp, ?_⟩⟩⟩⟩⟩
  rw [ejj]
  refine ⟨vp_in_nI (by omega) (by decide), nm_r (e' := b_cells (s * 24 + j)) (by rw [nI_clamp (by omega)]) (nm_r eM ⟨vp, ?_⟩)⟩
  rw [hl]
  refine ⟨vp_in_nI (by omega) (by decide), nm_r (e' := tg) (by rw [nI_clamp (by omega)]; exact et) ⟨vs, nm_r (e' := nI h9) (by rw [es]; exact eh) (nm_r (nI_1 p) ?_)⟩⟩
  exact br_f (by decide) (br_f (by decide) (br_f (by decide) (br_f (by decide) (br_f (by decide) (br_f (by decide) (br_f (by decide) (h)))))))
theorem cy_arith {post : SY → Prop} {s p c o a j k l h9 : Nat} {tg : Int32} (ho0 : 0 < o) (ho : o ≤ 12) (hs : s < 2) (hc : c ≤ 48) (ep : b_at s = nI p) (hpc : p < c) (eo : b_ops p = nI o) (ea0 : b_as p = nI a) (ha : a < 8)
    (hj : b_bs p &&& 7 = nI j) (hj8 : j < 8) (hk : b_cells (s * 24 + j) &&& 15 = nI k) (hk16 : k < 16) (hl : b_bs p &&& 15 = nI l) (hl16 : l < 16) (et : b_labelLine l = tg) (eh : b_entries s = nI h9)
    (h : wY_step_244 post (nI s) (nI p) (nI o) (b_cells (s * 24 + a)) tg (nI h9) (nI (p + 1)) g_capacity g_depth g_assembled (nI c) b_ops b_as b_bs b_bound b_labelLine (ci_cp o b_cells (s * 24 + a) (s * 24 + 8 + k) (b_cells (s * 24 + j)) (b_bs p)) b_stack b_entries b_at b_state) : wpY_step post (g_capacity, g_depth, g_assembled, nI c, b_ops, b_as, b_bs, b_bound, b_labelLine, b_cells, b_stack, b_entries, b_at, b_state) (nI s) := by
  have hh : o = 1 ∨ o = 2 ∨ o = 3 ∨ o = 4 ∨ o = 5 ∨ o = 6 ∨ o = 7 ∨ o = 8 ∨ o = 9 ∨ o = 10 ∨ o = 11 ∨ o = 12 := by omega
  rcases hh with rfl | rfl | rfl | rfl | rfl | rfl | rfl | rfl | rfl | rfl | rfl | rfl
  · exact cy_arith1 hs hc ep hpc eo ea0 ha hj hj8 hk hk16 hl hl16 et eh h
  · exact cy_arith2 hs hc ep hpc eo ea0 ha hj hj8 hk hk16 hl hl16 et eh h
  · exact cy_arith3 hs hc ep hpc eo ea0 ha hj hj8 hk hk16 hl hl16 et eh h
  · exact cy_arith4 hs hc ep hpc eo ea0 ha hj hj8 hk hk16 hl hl16 et eh h
  · exact cy_arith5 hs hc ep hpc eo ea0 ha hj hj8 hk hk16 hl hl16 et eh h
  · exact cy_arith6 hs hc ep hpc eo ea0 ha hj hj8 hk hk16 hl hl16 et eh h
  · exact cy_arith7 hs hc ep hpc eo ea0 ha hj hj8 hk hk16 hl hl16 et eh h
  · exact cy_arith8 hs hc ep hpc eo ea0 ha hj hj8 hk hk16 hl hl16 et eh h
  · exact cy_arith9 hs hc ep hpc eo ea0 ha hj hj8 hk hk16 hl hl16 et eh h
  · exact cy_arith10 hs hc ep hpc eo ea0 ha hj hj8 hk hk16 hl hl16 et eh h
  · exact cy_arith11 hs hc ep hpc eo ea0 ha hj hj8 hk hk16 hl hl16 et eh h
  · exact cy_arith12 hs hc ep hpc eo ea0 ha hj hj8 hk hk16 hl hl16 et eh h
/-- the end of a step that neither calls nor comes back -/
theorem cy_276 {post : SY → Prop} {s o h9 : Nat} {x2 x8 x10 : Int32} (hs : s < 2) (ho : o < 11) (hp : post (g_capacity, g_depth, g_assembled, g_count, b_ops, b_as, b_bs, b_bound, b_labelLine, b_cells, b_stack, b_entries, upd b_at s x10, b_state)) : wY_step_276 post (nI s) x2 (nI o) x8 (nI h9) x10 g_capacity g_depth g_assembled g_count b_ops b_as b_bs b_bound b_labelLine b_cells b_stack b_entries b_at b_state := by
  have n11 : ¬ nI o = 11 := by
    intro e
    have e2 : nI o = nI 11 := e
    rw [nI_eq (by omega) (by omega)] at e2
    omega
  have n12 : ¬ nI o = 12 := by
    intro e
    have e2 : nI o = nI 12 := e
    rw [nI_eq (by omega) (by omega)] at e2
    omega
  exact br_f n11 (br_f n12 (br_f n11 (cy_345a hs n12 hp)))
theorem cy_jump {post : SY → Prop} {s o h9 : Nat} {x2 x5 x8 x10 : Int32} (hs : s < 2) (hj : ci_jmp o x5) (hp : post (g_capacity, g_depth, g_assembled, g_count, b_ops, b_as, b_bs, b_bound, b_labelLine, b_cells, b_stack, b_entries, upd b_at s x8, b_state)) : wY_step_244 post (nI s) x2 (nI o) x5 x8 (nI h9) x10 g_capacity g_depth g_assembled g_count b_ops b_as b_bs b_bound b_labelLine b_cells b_stack b_entries b_at b_state := by
  rcases hj with rfl | ⟨rfl, hj⟩ | ⟨rfl, hj⟩
  · exact br_t rfl (cy_276 hs (by omega) hp)
  · exact br_f (by decide) (br_t rfl (br_t hj (cy_276 hs (by omega) hp)))
  · exact br_f (by decide) (br_f (by decide) (br_t rfl (br_f hj (cy_276 hs (by omega) hp))))
theorem cy_comp {post : SY → Prop} {s o h9 : Nat} {x2 x5 x8 x10 : Int32} (hs : s < 2) (ho : o < 11) (hn : ¬ ci_jmp o x5) (hp : post (g_capacity, g_depth, g_assembled, g_count, b_ops, b_as, b_bs, b_bound, b_labelLine, b_cells, b_stack, b_entries, upd b_at s x10, b_state)) : wY_step_244 post (nI s) x2 (nI o) x5 x8 (nI h9) x10 g_capacity g_depth g_assembled g_count b_ops b_as b_bs b_bound b_labelLine b_cells b_stack b_entries b_at b_state := by
  have K : wY_step_276 post (nI s) x2 (nI o) x8 (nI h9) x10 g_capacity g_depth g_assembled g_count b_ops b_as b_bs b_bound b_labelLine b_cells b_stack b_entries b_at b_state := cy_276 hs ho hp
  have z : ¬ o = 10 ∨ 0 ≤ x5 := by
    by_cases z1 : o = 10
    · by_cases z2 : 0 ≤ x5
      · exact Or.inr z2
      · exact absurd (Or.inr (Or.inr ⟨z1, z2⟩)) hn
    · exact Or.inl z1
  have K2 : wY_step_261 post (nI s) x2 (nI o) x5 x8 (nI h9) x10 g_capacity g_depth g_assembled g_count b_ops b_as b_bs b_bound b_labelLine b_cells b_stack b_entries b_at b_state := by
    refine br_c (fun e => ?_) (fun _ => K)
    have e2 : nI o = nI 10 := e
    rw [nI_eq (by omega) (by omega)] at e2
    rcases z with z | z
    · exact absurd e2 z
    · exact br_t z K
  refine br_f (fun e => ?_) (br_c (fun e => br_f (fun d => ?_) K2) (fun _ => K2))
  · have e2 : nI o = nI 8 := e
    rw [nI_eq (by omega) (by omega)] at e2
    exact hn (Or.inl e2)
  · have e2 : nI o = nI 9 := e
    rw [nI_eq (by omega) (by omega)] at e2
    exact hn (Or.inr (Or.inl ⟨e2, d⟩))
theorem cy_call_ok {post : SY → Prop} {s p h9 dp : Nat} {x5 x8 x10 : Int32} (hs : s < 2) (hd : dp ≤ 8) (hh : h9 < dp) (hp : post (g_capacity, nI dp, g_assembled, g_count, b_ops, b_as, b_bs, b_bound, b_labelLine, b_cells, upd b_stack (s * 8 + h9) (nI (p + 1)), upd b_entries s (nI (h9 + 1)), upd b_at s x8, b_state)) : wY_step_244 post (nI s) (nI p) (nI 11) x5 x8 (nI h9) x10 g_capacity (nI dp) g_assembled g_count b_ops b_as b_bs b_bound b_labelLine b_cells b_stack b_entries b_at b_state := by
  have es : (nI s).toNatClampNeg = s := nI_clamp (by omega)
  have vs : vp_in (nI s) 2 := vp_in_nI hs (by decide)
  have ix : nI s * 8 + nI h9 = nI (s * 8 + h9) := by rw [show nI s * 8 = nI (s * 8) from pk_mul s 8, nI_add]
  refine br_f (by decide) (br_f (by decide) (br_f (by decide) (br_t rfl (br_f (nI_ge hh (by omega)) (br_f (by decide) (br_t rfl ?_))))))
  rw [ix]
  exact ⟨vp_in_nI (by omega) (by decide), nm_r (e' := upd b_stack (s * 8 + h9) (nI (p + 1))) (by rw [nI_clamp (by omega), nI_1]) ⟨vs, nm_r (e' := upd b_entries s (nI (h9 + 1))) (by rw [es, nI_1]) (cy_345a hs (by decide) hp)⟩⟩
theorem cy_call_trap {post : SY → Prop} {s h9 dp : Nat} {x2 x5 x8 x10 : Int32} (hs : s < 2) (hh8 : h9 ≤ 8) (hh : dp ≤ h9) (hp : post (g_capacity, nI dp, g_assembled, g_count, b_ops, b_as, b_bs, b_bound, b_labelLine, b_cells, b_stack, b_entries, b_at, upd b_state s 3)) : wY_step_244 post (nI s) x2 (nI 11) x5 x8 (nI h9) x10 g_capacity (nI dp) g_assembled g_count b_ops b_as b_bs b_bound b_labelLine b_cells b_stack b_entries b_at b_state := by
  have es : (nI s).toNatClampNeg = s := nI_clamp (by omega)
  have vs : vp_in (nI s) 2 := vp_in_nI hs (by decide)
  exact br_f (by decide) (br_f (by decide) (br_f (by decide) (br_t rfl (br_t (nI_le hh (by omega)) ⟨vs, nm_r (e' := upd b_state s 3) (by rw [es]) hp⟩))))
theorem cy_ret_ok {post : SY → Prop} {s h9 : Nat} {x2 x5 x8 x10 : Int32} (hs : s < 2) (hh8 : h9 < 8) (hp : post (g_capacity, g_depth, g_assembled, g_count, b_ops, b_as, b_bs, b_bound, b_labelLine, b_cells, b_stack, upd b_entries s (nI h9), upd b_at s (b_stack (s * 8 + h9)), b_state)) : wY_step_244 post (nI s) x2 (nI 12) x5 x8 (nI (h9 + 1)) x10 g_capacity g_depth g_assembled g_count b_ops b_as b_bs b_bound b_labelLine b_cells b_stack b_entries b_at b_state := by
  have es : (nI s).toNatClampNeg = s := nI_clamp (by omega)
  have vs : vp_in (nI s) 2 := vp_in_nI hs (by decide)
  have ix : nI s * 8 + nI (h9 + 1) - 1 = nI (s * 8 + h9) := by rw [show nI s * 8 = nI (s * 8) from pk_mul s 8, nI_add, ← Nat.add_assoc, nI_pred]
  refine br_f (by decide) (br_f (by decide) (br_f (by decide) (br_f (by decide) (br_t rfl (br_t (nI_lt (a := 0) (by omega) (by omega)) (br_f (by decide) (br_t rfl ⟨vs, nm_r (e' := upd b_entries s (nI h9)) (by rw [es, nI_pred]) ?_⟩)))))))
  rw [ix]
  exact ⟨vp_in_nI (by omega) (by decide), nm_r (e' := b_stack (s * 8 + h9)) (by rw [nI_clamp (by omega)]) ⟨vs, nm_r (e' := upd b_at s (b_stack (s * 8 + h9))) (by rw [es]) hp⟩⟩
theorem cy_ret_trap {post : SY → Prop} {s : Nat} {x2 x5 x8 x10 : Int32} (hs : s < 2) (hp : post (g_capacity, g_depth, g_assembled, g_count, b_ops, b_as, b_bs, b_bound, b_labelLine, b_cells, b_stack, b_entries, b_at, upd b_state s 3)) : wY_step_244 post (nI s) x2 (nI 12) x5 x8 (nI 0) x10 g_capacity g_depth g_assembled g_count b_ops b_as b_bs b_bound b_labelLine b_cells b_stack b_entries b_at b_state := by
  have es : (nI s).toNatClampNeg = s := nI_clamp (by omega)
  have vs : vp_in (nI s) 2 := vp_in_nI hs (by decide)
  exact br_f (by decide) (br_f (by decide) (br_f (by decide) (br_f (by decide) (br_t rfl (br_f (by decide) ⟨vs, nm_r (e' := upd b_state s 3) (by rw [es]) hp⟩)))))
end
end
section
/-! X's execute and Y's step, side by side -/
section
variable {f_HALT f_MOVE f_ADD f_SUB f_MUL f_LOAD f_STORE f_CONST f_JUMP f_BZ f_BN f_CALL f_RET f_POOL f_VENEER f_AROUND f_LITERAL f_DIRECT f_WAITING f_CELLS f_JUMP_BITS f_IMMEDIATE_BITS f_FAR f_capacity f_firstShortBits f_firstLoadBits f_literalRuns f_assembled : Int32} {a_lineOp a_lineA a_lineB a_labels a_addresses a_via a_cells a_kinds a_keys a_data a_stack a_held a_spot a_state : Nat → Int32} {g_capacity g_assembled : Int32} {b_ops b_as b_bs b_bound b_labelLine b_stack b_at : Nat → Int32} {c sb lb sz dp : Nat}
theorem ci_core {G : Prop} {s p o a h : Nat} {b tg : Int32} (hs : s < 2) (hc : c ≤ 48) (hd : dp ≤ 8) (ep : b_at s = nI p) (hpc : p ≤ c) (h0c : a_lineOp c = 0)
    (PY : ∀ i, i < c → b_ops i = a_lineOp i ∧ b_as i = a_lineA i ∧ b_bs i = a_lineB i)
    (eo : a_lineOp p = nI o) (ho : o ≤ 12) (eA : a_lineA p = nI a) (ha : a < 8) (eb : ¬ ci_T (a_lineOp p) → b = a_lineB p)
    (etg : p < c → ci_T (a_lineOp p) → ∀ l, l < 16 → a_lineB p &&& 15 = nI l → b_labelLine l = tg)
    (eh : a_held s = nI h) (hh : h ≤ dp)
    (kH : o = 0 → (∀ post : SX → Prop, post (f_HALT, f_MOVE, f_ADD, f_SUB, f_MUL, f_LOAD, f_STORE, f_CONST, f_JUMP, f_BZ, f_BN, f_CALL, f_RET, f_POOL, f_VENEER, f_AROUND, f_LITERAL, f_DIRECT, f_WAITING, f_CELLS, f_JUMP_BITS, f_IMMEDIATE_BITS, f_FAR, f_capacity, nI dp, f_firstShortBits, f_firstLoadBits, nI sb, nI lb, nI c, nI sz, f_literalRuns, f_assembled, a_lineOp, a_lineA, a_lineB, a_labels, a_addresses, a_via, a_cells, a_kinds, a_keys, a_data, a_stack, a_held, a_spot, upd a_state s 2) → wpX_execute post (f_HALT, f_MOVE, f_ADD, f_SUB, f_MUL, f_LOAD, f_STORE, f_CONST, f_JUMP, f_BZ, f_BN, f_CALL, f_RET, f_POOL, f_VENEER, f_AROUND, f_LITERAL, f_DIRECT, f_WAITING, f_CELLS, f_JUMP_BITS, f_IMMEDIATE_BITS, f_FAR, f_capacity, nI dp, f_firstShortBits, f_firstLoadBits, nI sb, nI lb, nI c, nI sz, f_literalRuns, f_assembled, a_lineOp, a_lineA, a_lineB, a_labels, a_addresses, a_via, a_cells, a_kinds, a_keys, a_data, a_stack, a_held, a_spot, a_state) (nI s) (a_lineOp p) (a_lineA p) b) → (∀ post : SY → Prop, post (g_capacity, nI dp, g_assembled, nI c, b_ops, b_as, b_bs, b_bound, b_labelLine, a_data, b_stack, a_held, b_at, upd a_state s 2) → wpY_step post (g_capacity, nI dp, g_assembled, nI c, b_ops, b_as, b_bs, b_bound, b_labelLine, a_data, b_stack, a_held, b_at, a_state) (nI s)) → G)
    (kT : (∀ post : SX → Prop, post (f_HALT, f_MOVE, f_ADD, f_SUB, f_MUL, f_LOAD, f_STORE, f_CONST, f_JUMP, f_BZ, f_BN, f_CALL, f_RET, f_POOL, f_VENEER, f_AROUND, f_LITERAL, f_DIRECT, f_WAITING, f_CELLS, f_JUMP_BITS, f_IMMEDIATE_BITS, f_FAR, f_capacity, nI dp, f_firstShortBits, f_firstLoadBits, nI sb, nI lb, nI c, nI sz, f_literalRuns, f_assembled, a_lineOp, a_lineA, a_lineB, a_labels, a_addresses, a_via, a_cells, a_kinds, a_keys, a_data, a_stack, a_held, a_spot, upd a_state s 3) → wpX_execute post (f_HALT, f_MOVE, f_ADD, f_SUB, f_MUL, f_LOAD, f_STORE, f_CONST, f_JUMP, f_BZ, f_BN, f_CALL, f_RET, f_POOL, f_VENEER, f_AROUND, f_LITERAL, f_DIRECT, f_WAITING, f_CELLS, f_JUMP_BITS, f_IMMEDIATE_BITS, f_FAR, f_capacity, nI dp, f_firstShortBits, f_firstLoadBits, nI sb, nI lb, nI c, nI sz, f_literalRuns, f_assembled, a_lineOp, a_lineA, a_lineB, a_labels, a_addresses, a_via, a_cells, a_kinds, a_keys, a_data, a_stack, a_held, a_spot, a_state) (nI s) (a_lineOp p) (a_lineA p) b) → (∀ post : SY → Prop, post (g_capacity, nI dp, g_assembled, nI c, b_ops, b_as, b_bs, b_bound, b_labelLine, a_data, b_stack, a_held, b_at, upd a_state s 3) → wpY_step post (g_capacity, nI dp, g_assembled, nI c, b_ops, b_as, b_bs, b_bound, b_labelLine, a_data, b_stack, a_held, b_at, a_state) (nI s)) → G)
    (kC : p < c → o = 11 → h < dp → (∀ post : SX → Prop, post (f_HALT, f_MOVE, f_ADD, f_SUB, f_MUL, f_LOAD, f_STORE, f_CONST, f_JUMP, f_BZ, f_BN, f_CALL, f_RET, f_POOL, f_VENEER, f_AROUND, f_LITERAL, f_DIRECT, f_WAITING, f_CELLS, f_JUMP_BITS, f_IMMEDIATE_BITS, f_FAR, f_capacity, nI dp, f_firstShortBits, f_firstLoadBits, nI sb, nI lb, nI c, nI sz, f_literalRuns, f_assembled, a_lineOp, a_lineA, a_lineB, a_labels, a_addresses, a_via, a_cells, a_kinds, a_keys, a_data, upd a_stack (s * 8 + h) (a_spot s + 1), upd a_held s (nI (h + 1)), upd a_spot s b, a_state) → wpX_execute post (f_HALT, f_MOVE, f_ADD, f_SUB, f_MUL, f_LOAD, f_STORE, f_CONST, f_JUMP, f_BZ, f_BN, f_CALL, f_RET, f_POOL, f_VENEER, f_AROUND, f_LITERAL, f_DIRECT, f_WAITING, f_CELLS, f_JUMP_BITS, f_IMMEDIATE_BITS, f_FAR, f_capacity, nI dp, f_firstShortBits, f_firstLoadBits, nI sb, nI lb, nI c, nI sz, f_literalRuns, f_assembled, a_lineOp, a_lineA, a_lineB, a_labels, a_addresses, a_via, a_cells, a_kinds, a_keys, a_data, a_stack, a_held, a_spot, a_state) (nI s) (a_lineOp p) (a_lineA p) b) → (∀ post : SY → Prop, post (g_capacity, nI dp, g_assembled, nI c, b_ops, b_as, b_bs, b_bound, b_labelLine, a_data, upd b_stack (s * 8 + h) (nI (p + 1)), upd a_held s (nI (h + 1)), upd b_at s tg, a_state) → wpY_step post (g_capacity, nI dp, g_assembled, nI c, b_ops, b_as, b_bs, b_bound, b_labelLine, a_data, b_stack, a_held, b_at, a_state) (nI s)) → G)
    (kR : ∀ h', o = 12 → h = h' + 1 → (∀ post : SX → Prop, post (f_HALT, f_MOVE, f_ADD, f_SUB, f_MUL, f_LOAD, f_STORE, f_CONST, f_JUMP, f_BZ, f_BN, f_CALL, f_RET, f_POOL, f_VENEER, f_AROUND, f_LITERAL, f_DIRECT, f_WAITING, f_CELLS, f_JUMP_BITS, f_IMMEDIATE_BITS, f_FAR, f_capacity, nI dp, f_firstShortBits, f_firstLoadBits, nI sb, nI lb, nI c, nI sz, f_literalRuns, f_assembled, a_lineOp, a_lineA, a_lineB, a_labels, a_addresses, a_via, a_cells, a_kinds, a_keys, a_data, a_stack, upd a_held s (nI h'), upd a_spot s (a_stack (s * 8 + h')), a_state) → wpX_execute post (f_HALT, f_MOVE, f_ADD, f_SUB, f_MUL, f_LOAD, f_STORE, f_CONST, f_JUMP, f_BZ, f_BN, f_CALL, f_RET, f_POOL, f_VENEER, f_AROUND, f_LITERAL, f_DIRECT, f_WAITING, f_CELLS, f_JUMP_BITS, f_IMMEDIATE_BITS, f_FAR, f_capacity, nI dp, f_firstShortBits, f_firstLoadBits, nI sb, nI lb, nI c, nI sz, f_literalRuns, f_assembled, a_lineOp, a_lineA, a_lineB, a_labels, a_addresses, a_via, a_cells, a_kinds, a_keys, a_data, a_stack, a_held, a_spot, a_state) (nI s) (a_lineOp p) (a_lineA p) b) → (∀ post : SY → Prop, post (g_capacity, nI dp, g_assembled, nI c, b_ops, b_as, b_bs, b_bound, b_labelLine, a_data, b_stack, upd a_held s (nI h'), upd b_at s (b_stack (s * 8 + h')), a_state) → wpY_step post (g_capacity, nI dp, g_assembled, nI c, b_ops, b_as, b_bs, b_bound, b_labelLine, a_data, b_stack, a_held, b_at, a_state) (nI s)) → G)
    (kJ : p < c → ci_T (a_lineOp p) → (∀ post : SX → Prop, post (f_HALT, f_MOVE, f_ADD, f_SUB, f_MUL, f_LOAD, f_STORE, f_CONST, f_JUMP, f_BZ, f_BN, f_CALL, f_RET, f_POOL, f_VENEER, f_AROUND, f_LITERAL, f_DIRECT, f_WAITING, f_CELLS, f_JUMP_BITS, f_IMMEDIATE_BITS, f_FAR, f_capacity, nI dp, f_firstShortBits, f_firstLoadBits, nI sb, nI lb, nI c, nI sz, f_literalRuns, f_assembled, a_lineOp, a_lineA, a_lineB, a_labels, a_addresses, a_via, a_cells, a_kinds, a_keys, a_data, a_stack, a_held, upd a_spot s b, a_state) → wpX_execute post (f_HALT, f_MOVE, f_ADD, f_SUB, f_MUL, f_LOAD, f_STORE, f_CONST, f_JUMP, f_BZ, f_BN, f_CALL, f_RET, f_POOL, f_VENEER, f_AROUND, f_LITERAL, f_DIRECT, f_WAITING, f_CELLS, f_JUMP_BITS, f_IMMEDIATE_BITS, f_FAR, f_capacity, nI dp, f_firstShortBits, f_firstLoadBits, nI sb, nI lb, nI c, nI sz, f_literalRuns, f_assembled, a_lineOp, a_lineA, a_lineB, a_labels, a_addresses, a_via, a_cells, a_kinds, a_keys, a_data, a_stack, a_held, a_spot, a_state) (nI s) (a_lineOp p) (a_lineA p) b) → (∀ post : SY → Prop, post (g_capacity, nI dp, g_assembled, nI c, b_ops, b_as, b_bs, b_bound, b_labelLine, a_data, b_stack, a_held, upd b_at s tg, a_state) → wpY_step post (g_capacity, nI dp, g_assembled, nI c, b_ops, b_as, b_bs, b_bound, b_labelLine, a_data, b_stack, a_held, b_at, a_state) (nI s)) → G)
    (kN : ∀ D : Nat → Int32, p < c → ¬ ci_stop (a_lineOp p) → (∀ post : SX → Prop, post (f_HALT, f_MOVE, f_ADD, f_SUB, f_MUL, f_LOAD, f_STORE, f_CONST, f_JUMP, f_BZ, f_BN, f_CALL, f_RET, f_POOL, f_VENEER, f_AROUND, f_LITERAL, f_DIRECT, f_WAITING, f_CELLS, f_JUMP_BITS, f_IMMEDIATE_BITS, f_FAR, f_capacity, nI dp, f_firstShortBits, f_firstLoadBits, nI sb, nI lb, nI c, nI sz, f_literalRuns, f_assembled, a_lineOp, a_lineA, a_lineB, a_labels, a_addresses, a_via, a_cells, a_kinds, a_keys, D, a_stack, a_held, upd a_spot s (a_spot s + 1), a_state) → wpX_execute post (f_HALT, f_MOVE, f_ADD, f_SUB, f_MUL, f_LOAD, f_STORE, f_CONST, f_JUMP, f_BZ, f_BN, f_CALL, f_RET, f_POOL, f_VENEER, f_AROUND, f_LITERAL, f_DIRECT, f_WAITING, f_CELLS, f_JUMP_BITS, f_IMMEDIATE_BITS, f_FAR, f_capacity, nI dp, f_firstShortBits, f_firstLoadBits, nI sb, nI lb, nI c, nI sz, f_literalRuns, f_assembled, a_lineOp, a_lineA, a_lineB, a_labels, a_addresses, a_via, a_cells, a_kinds, a_keys, a_data, a_stack, a_held, a_spot, a_state) (nI s) (a_lineOp p) (a_lineA p) b) → (∀ post : SY → Prop, post (g_capacity, nI dp, g_assembled, nI c, b_ops, b_as, b_bs, b_bound, b_labelLine, D, b_stack, a_held, upd b_at s (nI (p + 1)), a_state) → wpY_step post (g_capacity, nI dp, g_assembled, nI c, b_ops, b_as, b_bs, b_bound, b_labelLine, a_data, b_stack, a_held, b_at, a_state) (nI s)) → G) : G := by
  by_cases o0 : o = 0
  · subst o0
    refine kH rfl (fun post hp => ?_) (fun post hp => ?_)
    · rw [eo, eA]
      exact ci_ex_halt hs hp
    · exact cy_halt hs hc ep hpc (fun l => by rw [(PY p l).1, eo]; rfl) hp
  · have hp : p < c := by
      by_cases l : p < c
      · exact l
      · have e : p = c := by omega
        rw [e, h0c] at eo
        have e2 : nI 0 = nI o := eo
        rw [nI_eq (by omega) (by omega)] at e2
        omega
    obtain ⟨y1, y2, y3⟩ := PY p hp
    obtain ⟨j, hj8, hj⟩ := pk_andE (b_bs p) (m := 7) 3 (by decide)
    obtain ⟨l, hl16, hl⟩ := pk_andE (b_bs p) (m := 15) 4 (by decide)
    obtain ⟨k, hk16, hk⟩ := pk_andE (a_data (s * 24 + j)) (m := 15) 4 (by decide)
    have nT : ∀ q : Nat, 8 ≤ q → q ≤ 11 → ci_T (nI q) := fun q q1 q2 => ⟨nI_le (a := 8) q1 (by omega), nI_le (b := 11) q2 (by omega)⟩
    by_cases o11 : o = 11
    · subst o11
      have t : ci_T (a_lineOp p) := by rw [eo]; exact nT 11 (by omega) (by omega)
      have et : b_labelLine l = tg := etg hp t l hl16 (by rw [← y3]; exact hl)
      by_cases hhd : h < dp
      · refine kC hp rfl hhd (fun post hq => ?_) (fun post hq => ?_)
        · rw [eo, eA]
          exact ci_ex_call_ok hs hd eh hhd hq
        · refine cy_arith (by omega) ho hs hc ep hp (y1.trans eo) (y2.trans eA) ha hj hj8 hk hk16 hl hl16 et eh ?_
          rw [ci_cp0 (by omega)]
          exact cy_call_ok hs hd hhd hq
      · refine kT (fun post hq => ?_) (fun post hq => ?_)
        · rw [eo, eA]
          exact ci_ex_call_trap hs (by omega) eh (by omega) hq
        · refine cy_arith (by omega) ho hs hc ep hp (y1.trans eo) (y2.trans eA) ha hj hj8 hk hk16 hl hl16 et eh ?_
          rw [ci_cp0 (by omega)]
          exact cy_call_trap hs (by omega) (by omega) hq
    · by_cases o12 : o = 12
      · subst o12
        cases h with
        | zero =>
          refine kT (fun post hq => ?_) (fun post hq => ?_)
          · rw [eo, eA]
            exact ci_ex_ret_trap hs eh hq
          · refine cy_arith (by omega) ho hs hc ep hp (y1.trans eo) (y2.trans eA) ha hj hj8 hk hk16 hl hl16 rfl eh ?_
            rw [ci_cp0 (by omega)]
            exact cy_ret_trap hs hq
        | succ h =>
          refine kR h rfl rfl (fun post hq => ?_) (fun post hq => ?_)
          · rw [eo, eA]
            exact ci_ex_ret_ok hs (by omega) eh hq
          · refine cy_arith (by omega) ho hs hc ep hp (y1.trans eo) (y2.trans eA) ha hj hj8 hk hk16 hl hl16 rfl eh ?_
            rw [ci_cp0 (by omega)]
            exact cy_ret_ok hs (by omega) hq
      · by_cases hjm : ci_jmp o (a_data (s * 24 + a))
        · have o8 : 8 ≤ o ∧ o ≤ 10 := by
            rcases hjm with e | ⟨e, _⟩ | ⟨e, _⟩ <;> omega
          have t : ci_T (a_lineOp p) := by rw [eo]; exact nT o (by omega) (by omega)
          have et : b_labelLine l = tg := etg hp t l hl16 (by rw [← y3]; exact hl)
          refine kJ hp t (fun post hq => ?_) (fun post hq => ?_)
          · rw [eo, eA]
            exact ci_ex_jump hs ha hjm hq
          · refine cy_arith (by omega) ho hs hc ep hp (y1.trans eo) (y2.trans eA) ha hj hj8 hk hk16 hl hl16 et eh ?_
            rw [ci_cp0 (by omega)]
            exact cy_jump hs hjm hq
        · have o8 : ¬ o = 8 := fun e => hjm (Or.inl e)
          have ns : ¬ ci_stop (a_lineOp p) := by
            intro z
            rw [eo] at z
            rcases z with z | z | z
            · have z2 : nI o = nI 0 := z
              rw [nI_eq (by omega) (by omega)] at z2
              omega
            · have z2 : nI o = nI 8 := z
              rw [nI_eq (by omega) (by omega)] at z2
              omega
            · have z2 : nI o = nI 12 := z
              rw [nI_eq (by omega) (by omega)] at z2
              omega
          by_cases o7 : 7 < o
          · obtain ⟨j2, hj82, hj2⟩ := pk_andE b (m := 7) 3 (by decide)
            obtain ⟨k2, hk162, hk2⟩ := pk_andE (a_data (s * 24 + j2)) (m := 15) 4 (by decide)
            refine kN a_data hp ns (fun post hq => ?_) (fun post hq => ?_)
            · rw [eo, eA]
              refine ci_ex_comp hs ha (by omega) (by omega) hjm hj2 hj82 hk2 hk162 ?_
              rw [ci_cp0 o7]
              exact hq
            · refine cy_arith (by omega) ho hs hc ep hp (y1.trans eo) (y2.trans eA) ha hj hj8 hk hk16 hl hl16 rfl eh ?_
              rw [ci_cp0 o7]
              exact cy_comp hs (by omega) hjm hq
          · have nt : ¬ ci_T (a_lineOp p) := by
              intro z
              rw [eo] at z
              have z2 : nI 8 ≤ nI o := z.1
              rw [nI_leI (by omega) (by omega)] at z2
              omega
            have ebb : b = b_bs p := (eb nt).trans y3.symm
            refine kN (ci_cp o a_data (s * 24 + a) (s * 24 + 8 + k) (a_data (s * 24 + j)) (b_bs p)) hp ns (fun post hq => ?_) (fun post hq => ?_)
            · rw [eo, eA, ebb]
              exact ci_ex_comp hs ha (by omega) (by omega) hjm hj hj8 hk hk16 hq
            · refine cy_arith (by omega) ho hs hc ep hp (y1.trans eo) (y2.trans eA) ha hj hj8 hk hk16 hl hl16 rfl eh ?_
              exact cy_comp hs (by omega) hjm hq
end
end
section
/-! one step of each side keeps the machines' relation -/
def ci_MR (op ad : Nat → Int32) (c dp : Nat) (xst held spot yst yat : Nat → Int32) : Prop :=
  (∃ h, h ≤ dp ∧ held 0 = nI h ∧ ∀ j, j < h → ∃ l, l ≤ c ∧ xst j = nI l ∧ yst j = nI l) ∧
  (∃ h, h ≤ dp ∧ held 1 = nI h ∧ ∀ j, j < h → ∃ l, l < c ∧ yst (8 + j) = nI (l + 1) ∧ op l = 11 ∧ xst (8 + j) = ad l + 1) ∧
  (∃ p, p ≤ c ∧ spot 0 = nI p ∧ yat 0 = nI p) ∧ (∃ p, p ≤ c ∧ yat 1 = nI p ∧ spot 1 = ad p)
/-- the reference's program and labels -/
def ci_PY (op A B lab ops as bs bound ll : Nat → Int32) (c : Nat) : Prop :=
  (∀ i, i < c → ops i = op i ∧ as i = A i ∧ bs i = B i) ∧
  (∀ k, k < 16 → (lab k = -4 ∧ bound k = 0) ∨ (¬ bound k = 0 ∧ lab k = ll k ∧ ∃ g, g ≤ c ∧ ll k = nI g))
theorem ci_tgt {op A B lab ops as bs bound ll : Nat → Int32} {c p g : Nat} (hc : c ≤ 48) (PY : ci_PY op A B lab ops as bs bound ll c) (hL : ci_Ln (op p) (A p) (B p)) (t : ci_T (op p)) (hg : g ≤ c) (hk : ci_key lab (op p) (B p) = nI g) (l : Nat) (hl : l < 16) (e : B p &&& 15 = nI l) : ll l = nI g := by
  obtain ⟨n, hn, en⟩ := hL.2.2.2 t
  have e1 : n = l := by
    rw [en, pk_andN (by omega) 4 (by decide), nI_eq (by omega) (by omega)] at e
    omega
  subst e1
  have e2 : ci_key lab (op p) (B p) = lab n := by
    unfold ci_key ci_lol
    rw [if_neg (ci_T7 t), en, if_neg (nI_pos (by omega)), if_pos (show nI n ≤ 15 from nI_le (b := 15) (by omega) (by omega)), nI_clamp (by omega)]
  rw [e2] at hk
  rcases PY.2 n hn with ⟨h1, _⟩ | ⟨_, h2, _⟩
  · rw [h1] at hk
    exact absurd hk.symm (ci_n4 (by omega))
  · exact h2.symm.trans hk
section
variable {f_HALT f_MOVE f_ADD f_SUB f_MUL f_LOAD f_STORE f_CONST f_JUMP f_BZ f_BN f_CALL f_RET f_POOL f_VENEER f_AROUND f_LITERAL f_DIRECT f_WAITING f_CELLS f_JUMP_BITS f_IMMEDIATE_BITS f_FAR f_capacity f_firstShortBits f_firstLoadBits f_literalRuns f_assembled : Int32} {a_lineOp a_lineA a_lineB a_labels a_addresses a_via a_cells a_kinds a_keys a_data a_stack a_held a_spot a_state : Nat → Int32} {g_capacity g_assembled : Int32} {b_ops b_as b_bs b_bound b_labelLine b_stack b_at : Nat → Int32} {c sb lb sz dp : Nat}
theorem ci_stepS (hc : c ≤ 48) (hd : dp ≤ 8) (P : ci_Prog a_lineOp a_lineA a_lineB a_labels c) (PY : ci_PY a_lineOp a_lineA a_lineB a_labels b_ops b_as b_bs b_bound b_labelLine c) (M : ci_MR a_lineOp a_addresses c dp a_stack a_held a_spot b_stack b_at) :
    ∃ dt xs hl sp st ys ya : Nat → Int32, ci_MR a_lineOp a_addresses c dp xs hl sp ys ya ∧ (∀ post : SX → Prop, post (f_HALT, f_MOVE, f_ADD, f_SUB, f_MUL, f_LOAD, f_STORE, f_CONST, f_JUMP, f_BZ, f_BN, f_CALL, f_RET, f_POOL, f_VENEER, f_AROUND, f_LITERAL, f_DIRECT, f_WAITING, f_CELLS, f_JUMP_BITS, f_IMMEDIATE_BITS, f_FAR, f_capacity, nI dp, f_firstShortBits, f_firstLoadBits, nI sb, nI lb, nI c, nI sz, f_literalRuns, f_assembled, a_lineOp, a_lineA, a_lineB, a_labels, a_addresses, a_via, a_cells, a_kinds, a_keys, dt, xs, hl, sp, st) → wpX_stepSource post (f_HALT, f_MOVE, f_ADD, f_SUB, f_MUL, f_LOAD, f_STORE, f_CONST, f_JUMP, f_BZ, f_BN, f_CALL, f_RET, f_POOL, f_VENEER, f_AROUND, f_LITERAL, f_DIRECT, f_WAITING, f_CELLS, f_JUMP_BITS, f_IMMEDIATE_BITS, f_FAR, f_capacity, nI dp, f_firstShortBits, f_firstLoadBits, nI sb, nI lb, nI c, nI sz, f_literalRuns, f_assembled, a_lineOp, a_lineA, a_lineB, a_labels, a_addresses, a_via, a_cells, a_kinds, a_keys, a_data, a_stack, a_held, a_spot, a_state)) ∧ (∀ post : SY → Prop, post (g_capacity, nI dp, g_assembled, nI c, b_ops, b_as, b_bs, b_bound, b_labelLine, dt, ys, hl, ya, st) → wpY_step post (g_capacity, nI dp, g_assembled, nI c, b_ops, b_as, b_bs, b_bound, b_labelLine, a_data, b_stack, a_held, b_at, a_state) 0) := by
  obtain ⟨⟨h, h1, h2, h3⟩, M1, ⟨p, p1, p2, p3⟩, M3⟩ := M
  obtain ⟨⟨o, ho, eo⟩, ⟨a, ha, ea⟩, lb1, lb2⟩ := P.2.1 p p1
  have h0c := P.2.2.2
  have un : ∀ (f : Nat → Int32) (x : Int32), upd f 0 x 1 = f 1 := fun f x => pk_un (by decide)
  have epc : (nI p).toNatClampNeg = p := nI_clamp (by omega)
  have vp : vp_in (nI p) 49 := vp_in_nI (by omega) (by decide)
  obtain ⟨b, bT, bN⟩ : ∃ b, (ci_T (a_lineOp p) → ci_key a_labels (a_lineOp p) (a_lineB p) = b) ∧ (¬ ci_T (a_lineOp p) → b = a_lineB p) := by
    by_cases t : ci_T (a_lineOp p)
    · exact ⟨_, fun _ => rfl, fun n => absurd t n⟩
    · exact ⟨_, fun n => absurd n t, fun _ => rfl⟩
  have XS : ∀ dt xs hl sp st : Nat → Int32, (∀ post : SX → Prop, post (f_HALT, f_MOVE, f_ADD, f_SUB, f_MUL, f_LOAD, f_STORE, f_CONST, f_JUMP, f_BZ, f_BN, f_CALL, f_RET, f_POOL, f_VENEER, f_AROUND, f_LITERAL, f_DIRECT, f_WAITING, f_CELLS, f_JUMP_BITS, f_IMMEDIATE_BITS, f_FAR, f_capacity, nI dp, f_firstShortBits, f_firstLoadBits, nI sb, nI lb, nI c, nI sz, f_literalRuns, f_assembled, a_lineOp, a_lineA, a_lineB, a_labels, a_addresses, a_via, a_cells, a_kinds, a_keys, dt, xs, hl, sp, st) → wpX_execute post (f_HALT, f_MOVE, f_ADD, f_SUB, f_MUL, f_LOAD, f_STORE, f_CONST, f_JUMP, f_BZ, f_BN, f_CALL, f_RET, f_POOL, f_VENEER, f_AROUND, f_LITERAL, f_DIRECT, f_WAITING, f_CELLS, f_JUMP_BITS, f_IMMEDIATE_BITS, f_FAR, f_capacity, nI dp, f_firstShortBits, f_firstLoadBits, nI sb, nI lb, nI c, nI sz, f_literalRuns, f_assembled, a_lineOp, a_lineA, a_lineB, a_labels, a_addresses, a_via, a_cells, a_kinds, a_keys, a_data, a_stack, a_held, a_spot, a_state) (nI 0) (a_lineOp p) (a_lineA p) b) → ∀ post : SX → Prop, post (f_HALT, f_MOVE, f_ADD, f_SUB, f_MUL, f_LOAD, f_STORE, f_CONST, f_JUMP, f_BZ, f_BN, f_CALL, f_RET, f_POOL, f_VENEER, f_AROUND, f_LITERAL, f_DIRECT, f_WAITING, f_CELLS, f_JUMP_BITS, f_IMMEDIATE_BITS, f_FAR, f_capacity, nI dp, f_firstShortBits, f_firstLoadBits, nI sb, nI lb, nI c, nI sz, f_literalRuns, f_assembled, a_lineOp, a_lineA, a_lineB, a_labels, a_addresses, a_via, a_cells, a_kinds, a_keys, dt, xs, hl, sp, st) → wpX_stepSource post (f_HALT, f_MOVE, f_ADD, f_SUB, f_MUL, f_LOAD, f_STORE, f_CONST, f_JUMP, f_BZ, f_BN, f_CALL, f_RET, f_POOL, f_VENEER, f_AROUND, f_LITERAL, f_DIRECT, f_WAITING, f_CELLS, f_JUMP_BITS, f_IMMEDIATE_BITS, f_FAR, f_capacity, nI dp, f_firstShortBits, f_firstLoadBits, nI sb, nI lb, nI c, nI sz, f_literalRuns, f_assembled, a_lineOp, a_lineA, a_lineB, a_labels, a_addresses, a_via, a_cells, a_kinds, a_keys, a_data, a_stack, a_held, a_spot, a_state) := by
    intro dt xs hl sp st hX post hp
    unfold wpX_stepSource
    refine nm_r p2 ?_
    rw [epc]
    refine ci_sourceField (by omega) (fun e => absurd e (by decide)) (fun e => absurd (by decide) e) (fun _ nt => ⟨vp, vp, ?_⟩) (fun _ t => ⟨vp, vp, ?_⟩)
    · rw [← bN nt]
      exact hX _ hp
    · rw [bT t]
      exact hX _ hp
  refine ci_core (f_HALT := f_HALT) (f_MOVE := f_MOVE) (f_ADD := f_ADD) (f_SUB := f_SUB) (f_MUL := f_MUL) (f_LOAD := f_LOAD) (f_STORE := f_STORE) (f_CONST := f_CONST) (f_JUMP := f_JUMP) (f_BZ := f_BZ) (f_BN := f_BN) (f_CALL := f_CALL) (f_RET := f_RET) (f_POOL := f_POOL) (f_VENEER := f_VENEER) (f_AROUND := f_AROUND) (f_LITERAL := f_LITERAL) (f_DIRECT := f_DIRECT) (f_WAITING := f_WAITING) (f_CELLS := f_CELLS) (f_JUMP_BITS := f_JUMP_BITS) (f_IMMEDIATE_BITS := f_IMMEDIATE_BITS) (f_FAR := f_FAR) (f_capacity := f_capacity) (f_firstShortBits := f_firstShortBits) (f_firstLoadBits := f_firstLoadBits) (f_literalRuns := f_literalRuns) (f_assembled := f_assembled) (a_lineOp := a_lineOp) (a_lineA := a_lineA) (a_lineB := a_lineB) (a_labels := a_labels) (a_addresses := a_addresses) (a_via := a_via) (a_cells := a_cells) (a_kinds := a_kinds) (a_keys := a_keys) (a_data := a_data) (a_stack := a_stack) (a_held := a_held) (a_spot := a_spot) (a_state := a_state) (g_capacity := g_capacity) (g_assembled := g_assembled) (b_ops := b_ops) (b_as := b_as) (b_bs := b_bs) (b_bound := b_bound) (b_labelLine := b_labelLine) (b_stack := b_stack) (b_at := b_at) (c := c) (sb := sb) (lb := lb) (sz := sz) (dp := dp) (s := 0) (b := b) (tg := b) (by omega) hc hd p3 p1 h0c PY.1 eo ho ea ha bN ?_ h2 h1 ?_ ?_ ?_ ?_ ?_ ?_
  · intro _ t l hl e
    obtain ⟨g, g1, g2⟩ := P.2.2.1 p p1 t
    rw [← bT t, g2]
    exact ci_tgt hc PY (P.2.1 p p1) t g1 g2 l hl e
  · intro _ hX hY
    exact ⟨a_data, a_stack, a_held, a_spot, upd a_state 0 2, b_stack, b_at, ⟨⟨h, h1, h2, h3⟩, M1, ⟨p, p1, p2, p3⟩, M3⟩, XS _ _ _ _ _ hX, hY⟩
  · intro hX hY
    exact ⟨a_data, a_stack, a_held, a_spot, upd a_state 0 3, b_stack, b_at, ⟨⟨h, h1, h2, h3⟩, M1, ⟨p, p1, p2, p3⟩, M3⟩, XS _ _ _ _ _ hX, hY⟩
  · intro hpc o11 hhd hX hY
    have t : ci_T (a_lineOp p) := by rw [eo, o11]; exact ⟨by decide, by decide⟩
    obtain ⟨g, g1, g2⟩ := P.2.2.1 p p1 t
    have ebg : b = nI g := (bT t).symm.trans g2
    refine ⟨a_data, upd a_stack (0 * 8 + h) (a_spot 0 + 1), upd a_held 0 (nI (h + 1)), upd a_spot 0 b, a_state, upd b_stack (0 * 8 + h) (nI (p + 1)), upd b_at 0 b, ⟨⟨h + 1, by omega, pk_us, fun j hj => ?_⟩, ?_, ⟨g, g1, pk_us.trans ebg, pk_us.trans ebg⟩, ?_⟩, XS _ _ _ _ _ hX, hY⟩
    · by_cases e : j = 0 * 8 + h
      · subst e
        rw [pk_us, pk_us, p2, nI_1]
        exact ⟨p + 1, by omega, rfl, rfl⟩
      · rw [pk_un e, pk_un e]
        exact h3 j (by omega)
    · obtain ⟨k, k1, k2, k3⟩ := M1
      refine ⟨k, k1, (un _ _).trans k2, fun j hj => ?_⟩
      rw [pk_un (by omega), pk_un (by omega)]
      exact k3 j hj
    · rw [un, un]
      exact M3
  · intro h' o12 e hX hY
    subst e
    refine ⟨a_data, a_stack, upd a_held 0 (nI h'), upd a_spot 0 (a_stack (0 * 8 + h')), a_state, b_stack, upd b_at 0 (b_stack (0 * 8 + h')), ⟨⟨h', by omega, pk_us, fun j hj => h3 j (by omega)⟩, ?_, ?_, ?_⟩, XS _ _ _ _ _ hX, hY⟩
    · rw [un]
      exact M1
    · obtain ⟨l, l1, l2, l3⟩ := h3 h' (by omega)
      rw [Nat.zero_mul, Nat.zero_add]
      exact ⟨l, l1, pk_us.trans l2, pk_us.trans l3⟩
    · rw [un, un]
      exact M3
  · intro hpc t hX hY
    obtain ⟨g, g1, g2⟩ := P.2.2.1 p p1 t
    have ebg : b = nI g := (bT t).symm.trans g2
    refine ⟨a_data, a_stack, a_held, upd a_spot 0 b, a_state, b_stack, upd b_at 0 b, ⟨⟨h, h1, h2, h3⟩, M1, ⟨g, g1, pk_us.trans ebg, pk_us.trans ebg⟩, ?_⟩, XS _ _ _ _ _ hX, hY⟩
    rw [un, un]
    exact M3
  · intro D hpc ns hX hY
    refine ⟨D, a_stack, a_held, upd a_spot 0 (a_spot 0 + 1), a_state, b_stack, upd b_at 0 (nI (p + 1)), ⟨⟨h, h1, h2, h3⟩, M1, ⟨p + 1, by omega, by rw [pk_us, p2, nI_1], pk_us⟩, ?_⟩, XS _ _ _ _ _ hX, hY⟩
    rw [un, un]
    exact M3
theorem ci_stepI (hc : c ≤ 48) (hd : dp ≤ 8) (P : ci_Prog a_lineOp a_lineA a_lineB a_labels c) (L : ci_Lay a_lineOp a_lineA a_lineB a_labels sb lb c sz a_addresses a_cells a_kinds) (PY : ci_PY a_lineOp a_lineA a_lineB a_labels b_ops b_as b_bs b_bound b_labelLine c) (M : ci_MR a_lineOp a_addresses c dp a_stack a_held a_spot b_stack b_at) :
    ∃ dt xs hl sp st ys ya : Nat → Int32, ci_MR a_lineOp a_addresses c dp xs hl sp ys ya ∧ (∀ post : SX → Prop, post (f_HALT, f_MOVE, f_ADD, f_SUB, f_MUL, f_LOAD, f_STORE, f_CONST, f_JUMP, f_BZ, f_BN, f_CALL, f_RET, f_POOL, f_VENEER, f_AROUND, f_LITERAL, f_DIRECT, f_WAITING, f_CELLS, f_JUMP_BITS, f_IMMEDIATE_BITS, f_FAR, f_capacity, nI dp, f_firstShortBits, f_firstLoadBits, nI sb, nI lb, nI c, nI sz, f_literalRuns, f_assembled, a_lineOp, a_lineA, a_lineB, a_labels, a_addresses, a_via, a_cells, a_kinds, a_keys, dt, xs, hl, sp, st) → wpX_stepImage post (f_HALT, f_MOVE, f_ADD, f_SUB, f_MUL, f_LOAD, f_STORE, f_CONST, f_JUMP, f_BZ, f_BN, f_CALL, f_RET, f_POOL, f_VENEER, f_AROUND, f_LITERAL, f_DIRECT, f_WAITING, f_CELLS, f_JUMP_BITS, f_IMMEDIATE_BITS, f_FAR, f_capacity, nI dp, f_firstShortBits, f_firstLoadBits, nI sb, nI lb, nI c, nI sz, f_literalRuns, f_assembled, a_lineOp, a_lineA, a_lineB, a_labels, a_addresses, a_via, a_cells, a_kinds, a_keys, a_data, a_stack, a_held, a_spot, a_state)) ∧ (∀ post : SY → Prop, post (g_capacity, nI dp, g_assembled, nI c, b_ops, b_as, b_bs, b_bound, b_labelLine, dt, ys, hl, ya, st) → wpY_step post (g_capacity, nI dp, g_assembled, nI c, b_ops, b_as, b_bs, b_bound, b_labelLine, a_data, b_stack, a_held, b_at, a_state) 1) := by
  obtain ⟨M0, ⟨h, h1, h2, h3⟩, M2, ⟨p, p1, p2, p3⟩⟩ := M
  obtain ⟨⟨o, ho, eo⟩, ⟨a, ha, ea⟩, lb1, lb2⟩ := P.2.1 p p1
  have h0c := P.2.2.2
  have hz := L.1
  have un : ∀ (f : Nat → Int32) (x : Int32), upd f 1 x 0 = f 0 := fun f x => pk_un (by decide)
  obtain ⟨q, q1, q2, q3, q4, q5⟩ := L.2 p p1
  have n13 : ¬ a_lineOp p = 13 := by rw [eo]; exact ci_o13 ho
  have p4 : a_spot 1 = nI q := p3.trans q2
  obtain ⟨b, bN, bT, bX⟩ : ∃ b : Int32, (¬ ci_T (a_lineOp p) → b = a_lineB p) ∧ (ci_T (a_lineOp p) → ∃ t g, b = nI t ∧ g ≤ c ∧ ci_key a_labels (a_lineOp p) (a_lineB p) = nI g ∧ ci_Land (-1) c sz a_addresses a_cells a_kinds t g) ∧ (∀ post : Int32 → Prop, post b → wpX_operandAt post (f_HALT, f_MOVE, f_ADD, f_SUB, f_MUL, f_LOAD, f_STORE, f_CONST, f_JUMP, f_BZ, f_BN, f_CALL, f_RET, f_POOL, f_VENEER, f_AROUND, f_LITERAL, f_DIRECT, f_WAITING, f_CELLS, f_JUMP_BITS, f_IMMEDIATE_BITS, f_FAR, f_capacity, nI dp, f_firstShortBits, f_firstLoadBits, nI sb, nI lb, nI c, nI sz, f_literalRuns, f_assembled, a_lineOp, a_lineA, a_lineB, a_labels, a_addresses, a_via, a_cells, a_kinds, a_keys, a_data, a_stack, a_held, a_spot, a_state) (nI q)) := by
    by_cases t : ci_T (a_lineOp p)
    · rcases q4.2 with ⟨e1, e2, e3, e4⟩ | ⟨e1, e2, e3⟩ | ⟨e1, e2, t1, e3, e4, e5⟩ | ⟨e1, e2, t1, g, e3, e4, e5⟩
      · exact absurd t e2
      · rw [e1] at t; exact absurd t ci_nT7
      · rw [e1] at t; exact absurd t ci_nT7
      · refine ⟨nI t1, fun n => absurd t n, fun _ => ⟨t1, g, rfl, e5.2.1, e3, e5⟩, fun post hp => ?_⟩
        unfold wpX_operandAt
        refine ci_cellAt hz q1 ?_
        refine nm_r e2 ?_
        refine br_f (ci_T7 e1) (br_f n13 ?_)
        refine ci_isT (fun h => absurd e1 h) (fun _ => br_f (by decide) ?_)
        unfold wX_operandAt_46
        refine ci_widthOf ?_
        refine ci_signed ?_
        exact nm_r e4 (br_f n13 hp)
    · exact ⟨a_lineB p, fun _ => rfl, fun n => absurd n t, fun post hp => ci_operandAt hz q1 n13 q4 (fun _ => hp) (fun _ _ n => absurd n t)⟩
  have XS : ∀ dt xs hl sp st sp2 : Nat → Int32, (∀ post : SX → Prop, post (f_HALT, f_MOVE, f_ADD, f_SUB, f_MUL, f_LOAD, f_STORE, f_CONST, f_JUMP, f_BZ, f_BN, f_CALL, f_RET, f_POOL, f_VENEER, f_AROUND, f_LITERAL, f_DIRECT, f_WAITING, f_CELLS, f_JUMP_BITS, f_IMMEDIATE_BITS, f_FAR, f_capacity, nI dp, f_firstShortBits, f_firstLoadBits, nI sb, nI lb, nI c, nI sz, f_literalRuns, f_assembled, a_lineOp, a_lineA, a_lineB, a_labels, a_addresses, a_via, a_cells, a_kinds, a_keys, dt, xs, hl, sp, st) → wpX_execute post (f_HALT, f_MOVE, f_ADD, f_SUB, f_MUL, f_LOAD, f_STORE, f_CONST, f_JUMP, f_BZ, f_BN, f_CALL, f_RET, f_POOL, f_VENEER, f_AROUND, f_LITERAL, f_DIRECT, f_WAITING, f_CELLS, f_JUMP_BITS, f_IMMEDIATE_BITS, f_FAR, f_capacity, nI dp, f_firstShortBits, f_firstLoadBits, nI sb, nI lb, nI c, nI sz, f_literalRuns, f_assembled, a_lineOp, a_lineA, a_lineB, a_labels, a_addresses, a_via, a_cells, a_kinds, a_keys, a_data, a_stack, a_held, a_spot, a_state) (nI 1) (a_lineOp p) (a_lineA p) b) → (∀ post : SX → Prop, post (f_HALT, f_MOVE, f_ADD, f_SUB, f_MUL, f_LOAD, f_STORE, f_CONST, f_JUMP, f_BZ, f_BN, f_CALL, f_RET, f_POOL, f_VENEER, f_AROUND, f_LITERAL, f_DIRECT, f_WAITING, f_CELLS, f_JUMP_BITS, f_IMMEDIATE_BITS, f_FAR, f_capacity, nI dp, f_firstShortBits, f_firstLoadBits, nI sb, nI lb, nI c, nI sz, f_literalRuns, f_assembled, a_lineOp, a_lineA, a_lineB, a_labels, a_addresses, a_via, a_cells, a_kinds, a_keys, dt, xs, hl, sp2, st) → wpX_settle post (f_HALT, f_MOVE, f_ADD, f_SUB, f_MUL, f_LOAD, f_STORE, f_CONST, f_JUMP, f_BZ, f_BN, f_CALL, f_RET, f_POOL, f_VENEER, f_AROUND, f_LITERAL, f_DIRECT, f_WAITING, f_CELLS, f_JUMP_BITS, f_IMMEDIATE_BITS, f_FAR, f_capacity, nI dp, f_firstShortBits, f_firstLoadBits, nI sb, nI lb, nI c, nI sz, f_literalRuns, f_assembled, a_lineOp, a_lineA, a_lineB, a_labels, a_addresses, a_via, a_cells, a_kinds, a_keys, dt, xs, hl, sp, st)) → ∀ post : SX → Prop, post (f_HALT, f_MOVE, f_ADD, f_SUB, f_MUL, f_LOAD, f_STORE, f_CONST, f_JUMP, f_BZ, f_BN, f_CALL, f_RET, f_POOL, f_VENEER, f_AROUND, f_LITERAL, f_DIRECT, f_WAITING, f_CELLS, f_JUMP_BITS, f_IMMEDIATE_BITS, f_FAR, f_capacity, nI dp, f_firstShortBits, f_firstLoadBits, nI sb, nI lb, nI c, nI sz, f_literalRuns, f_assembled, a_lineOp, a_lineA, a_lineB, a_labels, a_addresses, a_via, a_cells, a_kinds, a_keys, dt, xs, hl, sp2, st) → wpX_stepImage post (f_HALT, f_MOVE, f_ADD, f_SUB, f_MUL, f_LOAD, f_STORE, f_CONST, f_JUMP, f_BZ, f_BN, f_CALL, f_RET, f_POOL, f_VENEER, f_AROUND, f_LITERAL, f_DIRECT, f_WAITING, f_CELLS, f_JUMP_BITS, f_IMMEDIATE_BITS, f_FAR, f_capacity, nI dp, f_firstShortBits, f_firstLoadBits, nI sb, nI lb, nI c, nI sz, f_literalRuns, f_assembled, a_lineOp, a_lineA, a_lineB, a_labels, a_addresses, a_via, a_cells, a_kinds, a_keys, a_data, a_stack, a_held, a_spot, a_state) := by
    intro dt xs hl sp st sp2 hX hS post hp
    unfold wpX_stepImage
    refine nm_r p4 ?_
    refine ci_cellAt hz q1 ?_
    refine ci_opOf n13 q4 ?_
    refine bX _ ?_
    rw [q4.1]
    refine hX _ ?_
    exact hS _ hp
  have ST : ∀ (dt xs hl sp st : Nat → Int32) (t g : Nat) (k : Int32), (k = -1 ∨ k = -2) → ci_Land k c sz a_addresses a_cells a_kinds t g → sp 1 = nI t → ∃ s : Nat → Int32, s 1 = a_addresses g ∧ s 0 = sp 0 ∧ ∀ post : SX → Prop, post (f_HALT, f_MOVE, f_ADD, f_SUB, f_MUL, f_LOAD, f_STORE, f_CONST, f_JUMP, f_BZ, f_BN, f_CALL, f_RET, f_POOL, f_VENEER, f_AROUND, f_LITERAL, f_DIRECT, f_WAITING, f_CELLS, f_JUMP_BITS, f_IMMEDIATE_BITS, f_FAR, f_capacity, nI dp, f_firstShortBits, f_firstLoadBits, nI sb, nI lb, nI c, nI sz, f_literalRuns, f_assembled, a_lineOp, a_lineA, a_lineB, a_labels, a_addresses, a_via, a_cells, a_kinds, a_keys, dt, xs, hl, s, st) → wpX_settle post (f_HALT, f_MOVE, f_ADD, f_SUB, f_MUL, f_LOAD, f_STORE, f_CONST, f_JUMP, f_BZ, f_BN, f_CALL, f_RET, f_POOL, f_VENEER, f_AROUND, f_LITERAL, f_DIRECT, f_WAITING, f_CELLS, f_JUMP_BITS, f_IMMEDIATE_BITS, f_FAR, f_capacity, nI dp, f_firstShortBits, f_firstLoadBits, nI sb, nI lb, nI c, nI sz, f_literalRuns, f_assembled, a_lineOp, a_lineA, a_lineB, a_labels, a_addresses, a_via, a_cells, a_kinds, a_keys, dt, xs, hl, sp, st) := fun dt xs hl sp st t g k hk hL es => ci_settle L hc hk hL es
  have LP : ci_Land (-2) c sz a_addresses a_cells a_kinds q p := ⟨q1, p1, Or.inl ⟨q3, q2⟩⟩
  refine ci_core (f_HALT := f_HALT) (f_MOVE := f_MOVE) (f_ADD := f_ADD) (f_SUB := f_SUB) (f_MUL := f_MUL) (f_LOAD := f_LOAD) (f_STORE := f_STORE) (f_CONST := f_CONST) (f_JUMP := f_JUMP) (f_BZ := f_BZ) (f_BN := f_BN) (f_CALL := f_CALL) (f_RET := f_RET) (f_POOL := f_POOL) (f_VENEER := f_VENEER) (f_AROUND := f_AROUND) (f_LITERAL := f_LITERAL) (f_DIRECT := f_DIRECT) (f_WAITING := f_WAITING) (f_CELLS := f_CELLS) (f_JUMP_BITS := f_JUMP_BITS) (f_IMMEDIATE_BITS := f_IMMEDIATE_BITS) (f_FAR := f_FAR) (f_capacity := f_capacity) (f_firstShortBits := f_firstShortBits) (f_firstLoadBits := f_firstLoadBits) (f_literalRuns := f_literalRuns) (f_assembled := f_assembled) (a_lineOp := a_lineOp) (a_lineA := a_lineA) (a_lineB := a_lineB) (a_labels := a_labels) (a_addresses := a_addresses) (a_via := a_via) (a_cells := a_cells) (a_kinds := a_kinds) (a_keys := a_keys) (a_data := a_data) (a_stack := a_stack) (a_held := a_held) (a_spot := a_spot) (a_state := a_state) (g_capacity := g_capacity) (g_assembled := g_assembled) (b_ops := b_ops) (b_as := b_as) (b_bs := b_bs) (b_bound := b_bound) (b_labelLine := b_labelLine) (b_stack := b_stack) (b_at := b_at) (c := c) (sb := sb) (lb := lb) (sz := sz) (dp := dp) (s := 1) (b := b) (tg := ci_key a_labels (a_lineOp p) (a_lineB p)) (by omega) hc hd p2 p1 h0c PY.1 eo ho ea ha bN ?_ h2 h1 ?_ ?_ ?_ ?_ ?_ ?_
  · intro _ t l hl e
    obtain ⟨g, g1, g2⟩ := P.2.2.1 p p1 t
    rw [g2]
    exact ci_tgt hc PY (P.2.1 p p1) t g1 g2 l hl e
  · intro _ hX hY
    obtain ⟨sp, s1, s0, S⟩ := ST a_data a_stack a_held a_spot (upd a_state 1 2) q p (-2) (Or.inr rfl) LP p4
    exact ⟨a_data, a_stack, a_held, sp, upd a_state 1 2, b_stack, b_at, ⟨M0, ⟨h, h1, h2, h3⟩, by rw [s0]; exact M2, ⟨p, p1, p2, s1⟩⟩, XS _ _ _ _ _ _ hX S, hY⟩
  · intro hX hY
    obtain ⟨sp, s1, s0, S⟩ := ST a_data a_stack a_held a_spot (upd a_state 1 3) q p (-2) (Or.inr rfl) LP p4
    exact ⟨a_data, a_stack, a_held, sp, upd a_state 1 3, b_stack, b_at, ⟨M0, ⟨h, h1, h2, h3⟩, by rw [s0]; exact M2, ⟨p, p1, p2, s1⟩⟩, XS _ _ _ _ _ _ hX S, hY⟩
  · intro hpc o11 hhd hX hY
    have t : ci_T (a_lineOp p) := by rw [eo, o11]; exact ⟨by decide, by decide⟩
    obtain ⟨t1, g, e1, e2, e3, e4⟩ := bT t
    obtain ⟨sp, s1, s0, S⟩ := ST a_data (upd a_stack (1 * 8 + h) (a_spot 1 + 1)) (upd a_held 1 (nI (h + 1))) (upd a_spot 1 b) a_state t1 g (-1) (Or.inl rfl) e4 (pk_us.trans e1)
    rw [un] at s0
    refine ⟨a_data, upd a_stack (1 * 8 + h) (a_spot 1 + 1), upd a_held 1 (nI (h + 1)), sp, a_state, upd b_stack (1 * 8 + h) (nI (p + 1)), upd b_at 1 (ci_key a_labels (a_lineOp p) (a_lineB p)), ⟨?_, ⟨h + 1, by omega, pk_us, fun j hj => ?_⟩, ?_, ⟨g, e2, pk_us.trans e3, s1⟩⟩, XS _ _ _ _ _ _ hX S, hY⟩
    · obtain ⟨k, k1, k2, k3⟩ := M0
      refine ⟨k, k1, (un _ _).trans k2, fun j hj => ?_⟩
      rw [pk_un (by omega), pk_un (by omega)]
      exact k3 j hj
    · by_cases e : 8 + j = 1 * 8 + h
      · refine ⟨p, hpc, ?_, by rw [eo, o11]; rfl, ?_⟩
        · rw [e]; exact pk_us
        · rw [e, pk_us, p3]
      · rw [pk_un e, pk_un e]
        exact h3 j (by omega)
    · rw [s0, un]
      exact M2
  · intro h' o12 e hX hY
    subst e
    obtain ⟨l, l1, l2, l3, l4⟩ := h3 h' (by omega)
    obtain ⟨ql, r1, r2, r3, r4, r5⟩ := L.2 l (by omega)
    have e8 : 1 * 8 + h' = 8 + h' := by omega
    obtain ⟨_, r6⟩ := r5 (by rw [l3]; intro z; rcases z with z | z | z <;> exact absurd z (by decide))
    obtain ⟨sp, s1, s0, S⟩ := ST a_data a_stack (upd a_held 1 (nI h')) (upd a_spot 1 (a_stack (1 * 8 + h'))) a_state (ql + 1) (l + 1) (-2) (Or.inr rfl) r6 (by rw [pk_us, e8, l4, r2, nI_1])
    rw [un] at s0
    refine ⟨a_data, a_stack, upd a_held 1 (nI h'), sp, a_state, b_stack, upd b_at 1 (b_stack (1 * 8 + h')), ⟨?_, ⟨h', by omega, pk_us, fun j hj => h3 j (by omega)⟩, ?_, ⟨l + 1, by omega, by rw [pk_us, e8, l2], s1⟩⟩, XS _ _ _ _ _ _ hX S, hY⟩
    · rw [un]
      exact M0
    · rw [s0, un]
      exact M2
  · intro hpc t hX hY
    obtain ⟨t1, g, e1, e2, e3, e4⟩ := bT t
    obtain ⟨sp, s1, s0, S⟩ := ST a_data a_stack a_held (upd a_spot 1 b) a_state t1 g (-1) (Or.inl rfl) e4 (pk_us.trans e1)
    rw [un] at s0
    refine ⟨a_data, a_stack, a_held, sp, a_state, b_stack, upd b_at 1 (ci_key a_labels (a_lineOp p) (a_lineB p)), ⟨M0, ⟨h, h1, h2, h3⟩, ?_, ⟨g, e2, pk_us.trans e3, s1⟩⟩, XS _ _ _ _ _ _ hX S, hY⟩
    rw [s0, un]
    exact M2
  · intro D hpc ns hX hY
    obtain ⟨_, q6⟩ := q5 ns
    obtain ⟨sp, s1, s0, S⟩ := ST D a_stack a_held (upd a_spot 1 (a_spot 1 + 1)) a_state (q + 1) (p + 1) (-2) (Or.inr rfl) q6 (by rw [pk_us, p4, nI_1])
    rw [un] at s0
    refine ⟨D, a_stack, a_held, sp, a_state, b_stack, upd b_at 1 (nI (p + 1)), ⟨M0, ⟨h, h1, h2, h3⟩, ?_, ⟨p + 1, by omega, pk_us, s1⟩⟩, XS _ _ _ _ _ _ hX S, hY⟩
    rw [s0, un]
    exact M2
end
end
section
/-! the relation -/
def ci_F1 (cap dp fs fl sb lb c : Nat) : Prop := c ≤ cap ∧ cap ≤ 48 ∧ dp ≤ 8 ∧ ci_W fs ∧ ci_W fl ∧ ci_W sb ∧ ci_W lb
def ci_F2 (op A B : Nat → Int32) (c : Nat) : Prop := (∀ i, i < 49 → ci_Ln (op i) (A i) (B i)) ∧ (∀ i, c ≤ i → i < 49 → op i = 0)
def ci_Bd (op B lab : Nat → Int32) (c : Nat) : Prop := ∀ i, i ≤ c → ci_T (op i) → ∃ g, g ≤ c ∧ ci_key lab (op i) (B i) = nI g
def ci_As (op A B lab ad cl kd xst held spot yst yat : Nat → Int32) (sb lb c dp : Nat) (size runs : Int32) : Prop :=
  ∃ sz : Nat, size = nI sz ∧ runs = 0 ∧ ci_Bd op B lab c ∧ ci_Lay op A B lab sb lb c sz ad cl kd ∧ ci_MR op ad c dp xst held spot yst yat
def i_Rel (_ : Nat) (u : SX) (v : SY) : Prop := match u, v with
  | (f_HALT, f_MOVE, f_ADD, f_SUB, f_MUL, f_LOAD, f_STORE, f_CONST, f_JUMP, f_BZ, f_BN, f_CALL, f_RET, f_POOL, f_VENEER, f_AROUND, f_LITERAL, f_DIRECT, f_WAITING, f_CELLS, f_JUMP_BITS, f_IMMEDIATE_BITS, f_FAR, f_capacity, f_depth, f_firstShortBits, f_firstLoadBits, f_shortBits, f_loadBits, f_count, f_size, f_literalRuns, f_assembled, a_lineOp, a_lineA, a_lineB, a_labels, a_addresses, a_via, a_cells, a_kinds, a_keys, a_data, a_stack, a_held, a_spot, a_state), (g_capacity, g_depth, g_assembled, g_count, b_ops, b_as, b_bs, b_bound, b_labelLine, b_cells, b_stack, b_entries, b_at, b_state) => ∃ cap dp fs fl sb lb c : Nat,
    (f_capacity = nI cap ∧ f_depth = nI dp ∧ f_firstShortBits = nI fs ∧ f_firstLoadBits = nI fl ∧ f_shortBits = nI sb ∧ f_loadBits = nI lb ∧ f_count = nI c ∧ g_capacity = nI cap ∧ g_depth = nI dp ∧ f_assembled = g_assembled ∧ g_count = nI c ∧ a_data = b_cells ∧ a_held = b_entries ∧ a_state = b_state) ∧
    ci_F1 cap dp fs fl sb lb c ∧ ci_F2 a_lineOp a_lineA a_lineB c ∧ ci_PY a_lineOp a_lineA a_lineB a_labels b_ops b_as b_bs b_bound b_labelLine c ∧
    (¬ f_assembled = 0 → ci_As a_lineOp a_lineA a_lineB a_labels a_addresses a_cells a_kinds a_stack a_held a_spot b_stack b_at sb lb c dp f_size f_literalRuns)
theorem i_up {k : Nat} {u : SX} {v : SY} (h : i_Rel k u v) : i_Rel (k + 4) u v := h
theorem ci_el {k : Nat} {P : SX → SY → Prop} {u : SX} {v : SY} (I : i_Rel k u v)
    (h : ∀ (f_HALT f_MOVE f_ADD f_SUB f_MUL f_LOAD f_STORE f_CONST f_JUMP f_BZ f_BN f_CALL f_RET f_POOL f_VENEER f_AROUND f_LITERAL f_DIRECT f_WAITING f_CELLS f_JUMP_BITS f_IMMEDIATE_BITS f_FAR f_size f_literalRuns f_assembled : Int32) (a_lineOp a_lineA a_lineB a_labels a_addresses a_via a_cells a_kinds a_keys a_data a_stack a_held a_spot a_state : Nat → Int32) (b_ops b_as b_bs b_bound b_labelLine b_stack b_at : Nat → Int32) (cap dp fs fl sb lb c : Nat), ci_F1 cap dp fs fl sb lb c → ci_F2 a_lineOp a_lineA a_lineB c → ci_PY a_lineOp a_lineA a_lineB a_labels b_ops b_as b_bs b_bound b_labelLine c →
      (¬ f_assembled = 0 → ci_As a_lineOp a_lineA a_lineB a_labels a_addresses a_cells a_kinds a_stack a_held a_spot b_stack b_at sb lb c dp f_size f_literalRuns) → P (f_HALT, f_MOVE, f_ADD, f_SUB, f_MUL, f_LOAD, f_STORE, f_CONST, f_JUMP, f_BZ, f_BN, f_CALL, f_RET, f_POOL, f_VENEER, f_AROUND, f_LITERAL, f_DIRECT, f_WAITING, f_CELLS, f_JUMP_BITS, f_IMMEDIATE_BITS, f_FAR, nI cap, nI dp, nI fs, nI fl, nI sb, nI lb, nI c, f_size, f_literalRuns, f_assembled, a_lineOp, a_lineA, a_lineB, a_labels, a_addresses, a_via, a_cells, a_kinds, a_keys, a_data, a_stack, a_held, a_spot, a_state) (nI cap, nI dp, f_assembled, nI c, b_ops, b_as, b_bs, b_bound, b_labelLine, a_data, b_stack, a_held, b_at, a_state)) : P u v := by
  obtain ⟨f_HALT, f_MOVE, f_ADD, f_SUB, f_MUL, f_LOAD, f_STORE, f_CONST, f_JUMP, f_BZ, f_BN, f_CALL, f_RET, f_POOL, f_VENEER, f_AROUND, f_LITERAL, f_DIRECT, f_WAITING, f_CELLS, f_JUMP_BITS, f_IMMEDIATE_BITS, f_FAR, f_capacity, f_depth, f_firstShortBits, f_firstLoadBits, f_shortBits, f_loadBits, f_count, f_size, f_literalRuns, f_assembled, a_lineOp, a_lineA, a_lineB, a_labels, a_addresses, a_via, a_cells, a_kinds, a_keys, a_data, a_stack, a_held, a_spot, a_state⟩ := u
  obtain ⟨g_capacity, g_depth, g_assembled, g_count, b_ops, b_as, b_bs, b_bound, b_labelLine, b_cells, b_stack, b_entries, b_at, b_state⟩ := v
  unfold i_Rel at I
  obtain ⟨cap, dp, fs, fl, sb, lb, c, ⟨e1, e2, e3, e4, e5, e6, e7, e8, e9, e10, e11, e12, e13, e14⟩, F1, F2, F3, F4⟩ := I
  subst e1 e2 e3 e4 e5 e6 e7 e8 e9 e10 e11 e12 e13 e14
  exact h f_HALT f_MOVE f_ADD f_SUB f_MUL f_LOAD f_STORE f_CONST f_JUMP f_BZ f_BN f_CALL f_RET f_POOL f_VENEER f_AROUND f_LITERAL f_DIRECT f_WAITING f_CELLS f_JUMP_BITS f_IMMEDIATE_BITS f_FAR f_size f_literalRuns f_assembled a_lineOp a_lineA a_lineB a_labels a_addresses a_via a_cells a_kinds a_keys a_data a_stack a_held a_spot a_state b_ops b_as b_bs b_bound b_labelLine b_stack b_at cap dp fs fl sb lb c F1 F2 F3 F4
section
variable {f_HALT f_MOVE f_ADD f_SUB f_MUL f_LOAD f_STORE f_CONST f_JUMP f_BZ f_BN f_CALL f_RET f_POOL f_VENEER f_AROUND f_LITERAL f_DIRECT f_WAITING f_CELLS f_JUMP_BITS f_IMMEDIATE_BITS f_FAR f_size f_literalRuns f_assembled : Int32} {a_lineOp a_lineA a_lineB a_labels a_addresses a_via a_cells a_kinds a_keys a_data a_stack a_held a_spot a_state : Nat → Int32} {b_ops b_as b_bs b_bound b_labelLine b_stack b_at : Nat → Int32} {cap dp fs fl sb lb c : Nat}
theorem ci_mk {k : Nat} (F1 : ci_F1 cap dp fs fl sb lb c) (F2 : ci_F2 a_lineOp a_lineA a_lineB c) (F3 : ci_PY a_lineOp a_lineA a_lineB a_labels b_ops b_as b_bs b_bound b_labelLine c)
    (F4 : ¬ f_assembled = 0 → ci_As a_lineOp a_lineA a_lineB a_labels a_addresses a_cells a_kinds a_stack a_held a_spot b_stack b_at sb lb c dp f_size f_literalRuns) : i_Rel k (f_HALT, f_MOVE, f_ADD, f_SUB, f_MUL, f_LOAD, f_STORE, f_CONST, f_JUMP, f_BZ, f_BN, f_CALL, f_RET, f_POOL, f_VENEER, f_AROUND, f_LITERAL, f_DIRECT, f_WAITING, f_CELLS, f_JUMP_BITS, f_IMMEDIATE_BITS, f_FAR, nI cap, nI dp, nI fs, nI fl, nI sb, nI lb, nI c, f_size, f_literalRuns, f_assembled, a_lineOp, a_lineA, a_lineB, a_labels, a_addresses, a_via, a_cells, a_kinds, a_keys, a_data, a_stack, a_held, a_spot, a_state) (nI cap, nI dp, f_assembled, nI c, b_ops, b_as, b_bs, b_bound, b_labelLine, a_data, b_stack, a_held, b_at, a_state) := by
  unfold i_Rel
  exact ⟨cap, dp, fs, fl, sb, lb, c, ⟨rfl, rfl, rfl, rfl, rfl, rfl, rfl, rfl, rfl, rfl, rfl, rfl, rfl, rfl⟩, F1, F2, F3, F4⟩
theorem ci_prog (F1 : ci_F1 cap dp fs fl sb lb c) (F2 : ci_F2 a_lineOp a_lineA a_lineB c) (Bd : ci_Bd a_lineOp a_lineB a_labels c) : ci_Prog a_lineOp a_lineA a_lineB a_labels c := by
  obtain ⟨h1, h2, _⟩ := F1
  exact ⟨by omega, fun i hi => F2.1 i (by omega), Bd, F2.2 c (by omega) (by omega)⟩
end
end
section
/-! clear, the constructors, label -/
def ci_cl (lo hi v : Int32) : Int32 := if lo ≤ v then (if v ≤ hi then v else hi) else lo
theorem ci_clN {lo hi : Nat} (hh : lo ≤ hi) (hb : hi < 100) (v : Int32) : ∃ n, lo ≤ n ∧ n ≤ hi ∧ ci_cl (nI lo) (nI hi) v = nI n := by
  unfold ci_cl
  by_cases h1 : nI lo ≤ v
  · rw [if_pos h1]
    have h3 : ¬ v < 0 := fun z => by
      rw [Int32.lt_iff_toInt_lt, show (0 : Int32).toInt = 0 from by decide] at z
      rw [Int32.le_iff_toInt_le, nI_toInt (by omega)] at h1
      omega
    obtain ⟨n, hn, rfl⟩ := nI_of h3
    by_cases h2 : nI n ≤ nI hi
    · rw [if_pos h2]
      exact ⟨n, (nI_leI (by omega) hn).mp h1, (nI_leI hn (by omega)).mp h2, rfl⟩
    · rw [if_neg h2]
      exact ⟨hi, hh, Nat.le_refl _, rfl⟩
  · rw [if_neg h1]
    exact ⟨lo, Nat.le_refl _, hh, rfl⟩
theorem ci_vn0 : vp_nar .boolean 0 = 0 := rfl
theorem ci_vn1 : vp_nar .boolean 1 = 1 := rfl
section
variable {f_HALT f_MOVE f_ADD f_SUB f_MUL f_LOAD f_STORE f_CONST f_JUMP f_BZ f_BN f_CALL f_RET f_POOL f_VENEER f_AROUND f_LITERAL f_DIRECT f_WAITING f_CELLS f_JUMP_BITS f_IMMEDIATE_BITS f_FAR f_capacity f_depth f_firstShortBits f_firstLoadBits f_shortBits f_loadBits f_count f_size f_literalRuns f_assembled : Int32} {a_lineOp a_lineA a_lineB a_labels a_addresses a_via a_cells a_kinds a_keys a_data a_stack a_held a_spot a_state : Nat → Int32}
theorem ci_clampX {post : Int32 → Prop} {v lo hi : Int32} (h : post (ci_cl lo hi v)) : wpX_clamp post (f_HALT, f_MOVE, f_ADD, f_SUB, f_MUL, f_LOAD, f_STORE, f_CONST, f_JUMP, f_BZ, f_BN, f_CALL, f_RET, f_POOL, f_VENEER, f_AROUND, f_LITERAL, f_DIRECT, f_WAITING, f_CELLS, f_JUMP_BITS, f_IMMEDIATE_BITS, f_FAR, f_capacity, f_depth, f_firstShortBits, f_firstLoadBits, f_shortBits, f_loadBits, f_count, f_size, f_literalRuns, f_assembled, a_lineOp, a_lineA, a_lineB, a_labels, a_addresses, a_via, a_cells, a_kinds, a_keys, a_data, a_stack, a_held, a_spot, a_state) v lo hi := by
  unfold ci_cl at h
  refine br_c (fun c1 => br_c (fun c2 => ?_) (fun c2 => ?_)) (fun c1 => ?_)
  · rw [if_pos c1, if_pos c2] at h
    exact h
  · rw [if_pos c1, if_neg c2] at h
    exact h
  · rw [if_neg c1] at h
    exact h
theorem ci_clear37 {post : SX → Prop} (h : ∀ lab : Nat → Int32, (∀ k, k < 16 → lab k = -4) → post (f_HALT, f_MOVE, f_ADD, f_SUB, f_MUL, f_LOAD, f_STORE, f_CONST, f_JUMP, f_BZ, f_BN, f_CALL, f_RET, f_POOL, f_VENEER, f_AROUND, f_LITERAL, f_DIRECT, f_WAITING, f_CELLS, f_JUMP_BITS, f_IMMEDIATE_BITS, f_FAR, f_capacity, f_depth, f_firstShortBits, f_firstLoadBits, f_firstShortBits, f_firstLoadBits, 0, f_size, f_literalRuns, 0, a_lineOp, a_lineA, a_lineB, lab, a_addresses, a_via, a_cells, a_kinds, a_keys, a_data, a_stack, a_held, a_spot, a_state)) :
    ∀ (n x : Nat) (lab : Nat → Int32), 16 < n + x → x ≤ 16 → (∀ k, k < x → lab k = -4) → wX_clear_37 post f_HALT f_MOVE f_ADD f_SUB f_MUL f_LOAD f_STORE f_CONST f_JUMP f_BZ f_BN f_CALL f_RET f_POOL f_VENEER f_AROUND f_LITERAL f_DIRECT f_WAITING f_CELLS f_JUMP_BITS f_IMMEDIATE_BITS f_FAR f_capacity f_depth f_firstShortBits f_firstLoadBits f_shortBits f_loadBits f_count f_size f_literalRuns f_assembled n (nI x) a_lineOp a_lineA a_lineB lab a_addresses a_via a_cells a_kinds a_keys a_data a_stack a_held a_spot a_state := by
  intro n
  induction n with
  | zero => intro x lab h1 h2; omega
  | succ n ih =>
    intro x lab hn hx V
    by_cases hx9 : 16 ≤ x
    · exact br_t (nI_le (a := 16) hx9 (by omega)) (h lab (fun k hk => V k (by omega)))
    · have ex : (nI x).toNatClampNeg = x := nI_clamp (by omega)
      have vx : vp_in (nI x) 16 := vp_in_nI (by omega) (by decide)
      refine br_f (nI_ge (b := 16) (by omega) (by omega)) ⟨vx, nm_r (e' := upd lab x (-4)) (by rw [ex]) (nm_r (nI_1 x) ?_)⟩
      refine ih (x + 1) _ (by omega) (by omega) (fun i hi => ?_)
      by_cases e : i = x
      · subst e; exact pk_us
      · rw [pk_un e]; exact V i (by omega)
theorem ci_clear2 {post : SX → Prop} (h : ∀ op A B lab : Nat → Int32, (∀ i, i < 49 → op i = 0 ∧ A i = 0 ∧ B i = 0) → (∀ k, k < 16 → lab k = -4) → post (f_HALT, f_MOVE, f_ADD, f_SUB, f_MUL, f_LOAD, f_STORE, f_CONST, f_JUMP, f_BZ, f_BN, f_CALL, f_RET, f_POOL, f_VENEER, f_AROUND, f_LITERAL, f_DIRECT, f_WAITING, f_CELLS, f_JUMP_BITS, f_IMMEDIATE_BITS, f_FAR, f_capacity, f_depth, f_firstShortBits, f_firstLoadBits, f_firstShortBits, f_firstLoadBits, 0, f_size, f_literalRuns, 0, op, A, B, lab, a_addresses, a_via, a_cells, a_kinds, a_keys, a_data, a_stack, a_held, a_spot, a_state)) :
    ∀ (n x : Nat) (op A B : Nat → Int32), 49 < n + x → x ≤ 49 → (∀ i, i < x → op i = 0 ∧ A i = 0 ∧ B i = 0) → wX_clear_2 post f_HALT f_MOVE f_ADD f_SUB f_MUL f_LOAD f_STORE f_CONST f_JUMP f_BZ f_BN f_CALL f_RET f_POOL f_VENEER f_AROUND f_LITERAL f_DIRECT f_WAITING f_CELLS f_JUMP_BITS f_IMMEDIATE_BITS f_FAR f_capacity f_depth f_firstShortBits f_firstLoadBits f_shortBits f_loadBits f_count f_size f_literalRuns f_assembled n (nI x) op A B a_labels a_addresses a_via a_cells a_kinds a_keys a_data a_stack a_held a_spot a_state := by
  intro n
  induction n with
  | zero => intro x op A B h1 h2; omega
  | succ n ih =>
    intro x op A B hn hx V
    by_cases hx9 : 49 ≤ x
    · exact br_t (nI_le (a := 49) hx9 (by omega)) ⟨17, ci_clear37 (fun lab hlab => h op A B lab (fun i hi => V i (by omega)) hlab) 17 0 _ (by omega) (by omega) (fun k hk => absurd hk (by omega))⟩
    · have ex : (nI x).toNatClampNeg = x := nI_clamp (by omega)
      have vx : vp_in (nI x) 49 := vp_in_nI (by omega) (by decide)
      refine br_f (nI_ge (b := 49) (by omega) (by omega)) ⟨vx, nm_r (e' := upd op x 0) (by rw [ex]) ⟨vx, nm_r (e' := upd A x 0) (by rw [ex]) ⟨vx, nm_r (e' := upd B x 0) (by rw [ex]) (nm_r (nI_1 x) ?_)⟩⟩⟩
      refine ih (x + 1) _ _ _ (by omega) (by omega) (fun i hi => ?_)
      by_cases e : i = x
      · subst e; exact ⟨pk_us, pk_us, pk_us⟩
      · rw [pk_un e, pk_un e, pk_un e]; exact V i (by omega)
theorem ci_clearX {post : SX → Prop} (h : ∀ op A B lab : Nat → Int32, (∀ i, i < 49 → op i = 0 ∧ A i = 0 ∧ B i = 0) → (∀ k, k < 16 → lab k = -4) → post (f_HALT, f_MOVE, f_ADD, f_SUB, f_MUL, f_LOAD, f_STORE, f_CONST, f_JUMP, f_BZ, f_BN, f_CALL, f_RET, f_POOL, f_VENEER, f_AROUND, f_LITERAL, f_DIRECT, f_WAITING, f_CELLS, f_JUMP_BITS, f_IMMEDIATE_BITS, f_FAR, f_capacity, f_depth, f_firstShortBits, f_firstLoadBits, f_firstShortBits, f_firstLoadBits, 0, f_size, f_literalRuns, 0, op, A, B, lab, a_addresses, a_via, a_cells, a_kinds, a_keys, a_data, a_stack, a_held, a_spot, a_state)) : wpX_clear post (f_HALT, f_MOVE, f_ADD, f_SUB, f_MUL, f_LOAD, f_STORE, f_CONST, f_JUMP, f_BZ, f_BN, f_CALL, f_RET, f_POOL, f_VENEER, f_AROUND, f_LITERAL, f_DIRECT, f_WAITING, f_CELLS, f_JUMP_BITS, f_IMMEDIATE_BITS, f_FAR, f_capacity, f_depth, f_firstShortBits, f_firstLoadBits, f_shortBits, f_loadBits, f_count, f_size, f_literalRuns, f_assembled, a_lineOp, a_lineA, a_lineB, a_labels, a_addresses, a_via, a_cells, a_kinds, a_keys, a_data, a_stack, a_held, a_spot, a_state) :=
  ⟨50, ci_clear2 h 50 0 _ _ _ (by omega) (by omega) (fun i hi => absurd hi (by omega))⟩
end
section
variable {g_capacity g_depth g_assembled g_count : Int32} {b_ops b_as b_bs b_bound b_labelLine b_cells b_stack b_entries b_at b_state : Nat → Int32}
theorem cy_clear12 {post : SY → Prop} (h : ∀ bd : Nat → Int32, (∀ k, k < 16 → bd k = 0) → post (g_capacity, g_depth, g_assembled, g_count, b_ops, b_as, b_bs, bd, b_labelLine, b_cells, b_stack, b_entries, b_at, b_state)) :
    ∀ (n x : Nat) (bd : Nat → Int32), 16 < n + x → x ≤ 16 → (∀ k, k < x → bd k = 0) → wY_clear_12 post g_capacity g_depth g_assembled g_count n (nI x) b_ops b_as b_bs bd b_labelLine b_cells b_stack b_entries b_at b_state := by
  intro n
  induction n with
  | zero => intro x bd h1 h2; omega
  | succ n ih =>
    intro x bd hn hx V
    by_cases hx9 : 16 ≤ x
    · exact br_t (nI_le (a := 16) hx9 (by omega)) (h bd (fun k hk => V k (by omega)))
    · have ex : (nI x).toNatClampNeg = x := nI_clamp (by omega)
      have vx : vp_in (nI x) 16 := vp_in_nI (by omega) (by decide)
      refine br_f (nI_ge (b := 16) (by omega) (by omega)) ⟨vx, nm_r (e' := upd bd x 0) (by rw [ex, ci_vn0]) (nm_r (nI_1 x) ?_)⟩
      refine ih (x + 1) _ (by omega) (by omega) (fun i hi => ?_)
      by_cases e : i = x
      · subst e; exact pk_us
      · rw [pk_un e]; exact V i (by omega)
theorem cy_clear {post : SY → Prop} (h : ∀ bd : Nat → Int32, (∀ k, k < 16 → bd k = 0) → post (g_capacity, g_depth, 0, 0, b_ops, b_as, b_bs, bd, b_labelLine, b_cells, b_stack, b_entries, b_at, b_state)) : wpY_clear post (g_capacity, g_depth, g_assembled, g_count, b_ops, b_as, b_bs, b_bound, b_labelLine, b_cells, b_stack, b_entries, b_at, b_state) :=
  ⟨17, cy_clear12 h 17 0 _ (by omega) (by omega) (fun k hk => absurd hk (by omega))⟩
end
theorem ci_Ln0 : ci_Ln 0 0 0 := ⟨⟨0, by omega, rfl⟩, ⟨0, by omega, rfl⟩, fun _ _ => ⟨0, by omega, rfl⟩, fun _ => ⟨0, by omega, rfl⟩⟩
theorem ci_F2z {op A B : Nat → Int32} (V : ∀ i, i < 49 → op i = 0 ∧ A i = 0 ∧ B i = 0) : ci_F2 op A B 0 := by
  refine ⟨fun i hi => ?_, fun i _ hi => (V i hi).1⟩
  obtain ⟨a, b, d⟩ := V i hi
  rw [a, b, d]
  exact ci_Ln0
theorem i_vc_clear {k : Nat} {u : SX} {v : SY} (I : i_Rel k u v) (hk : k + 4 ≤ 2052) : wpX_clear (fun u' => wpY_clear (fun v' => i_Rel (k + 4) u' v') v) u := by
  refine ci_el (P := fun u v => wpX_clear (fun u' => wpY_clear (fun v' => i_Rel (k + 4) u' v') v) u) I ?_
  intro f_HALT f_MOVE f_ADD f_SUB f_MUL f_LOAD f_STORE f_CONST f_JUMP f_BZ f_BN f_CALL f_RET f_POOL f_VENEER f_AROUND f_LITERAL f_DIRECT f_WAITING f_CELLS f_JUMP_BITS f_IMMEDIATE_BITS f_FAR f_size f_literalRuns f_assembled a_lineOp a_lineA a_lineB a_labels a_addresses a_via a_cells a_kinds a_keys a_data a_stack a_held a_spot a_state b_ops b_as b_bs b_bound b_labelLine b_stack b_at cap dp fs fl sb lb c F1 F2 F3 F4
  obtain ⟨f1, f2, f3, f4, f5, f6, f7⟩ := F1
  refine ci_clearX (fun op A B lab V W => ?_)
  refine cy_clear (fun bd Vb => ?_)
  refine ci_mk (cap := cap) (dp := dp) (fs := fs) (fl := fl) (sb := fs) (lb := fl) (c := 0) ⟨by omega, f2, f3, f4, f5, f4, f5⟩ (ci_F2z V) ⟨fun i hi => absurd hi (by omega), fun k hk => Or.inl ⟨W k hk, Vb k hk⟩⟩ (fun z => absurd rfl z)
theorem i_vc0 (k0 : Int32) (k1 : Int32) (k2 : Int32) (k3 : Int32) : wpX_init (fun u => wpY_init (fun v => i_Rel 4 u v) k0 k1 k2 k3) k0 k1 k2 k3 := by
  obtain ⟨cap, cap1, cap2, ecap⟩ := ci_clN (lo := 8) (hi := 48) (by omega) (by omega) k0
  obtain ⟨fs, fs1, fs2, efs⟩ := ci_clN (lo := 3) (hi := 8) (by omega) (by omega) k1
  obtain ⟨fl, fl1, fl2, efl⟩ := ci_clN (lo := 3) (hi := 8) (by omega) (by omega) k2
  obtain ⟨dp, dp1, dp2, edp⟩ := ci_clN (lo := 1) (hi := 8) (by omega) (by omega) k3
  unfold wpX_init
  refine ci_clampX ?_
  refine ci_clampX ?_
  refine ci_clampX ?_
  refine ci_clampX ?_
  refine ci_clearX (fun op A B lab V W => ?_)
  have ecap' : ci_cl 8 48 k0 = nI cap := ecap
  have efs' : ci_cl 3 8 k1 = nI fs := efs
  have efl' : ci_cl 3 8 k2 = nI fl := efl
  have edp' : ci_cl 1 8 k3 = nI dp := edp
  rw [ecap', efs', efl', edp']
  have fin : ∀ k : Nat, i_Rel k (0, 1, 2, 3, 4, 5, 6, 7, 8, 9, 10, 11, 12, 13, (-1), (-2), (-3), (-1), (-2), 192, 10, 5, 4096, nI cap, nI dp, nI fs, nI fl, nI fs, nI fl, nI 0, 0, 0, 0, op, A, B, lab, (fun _ => 0), (fun _ => 0), (fun _ => 0), (fun _ => 0), (fun _ => 0), (fun _ => 0), (fun _ => 0), (fun _ => 0), (fun _ => 0), (fun _ => 0)) (nI cap, nI dp, 0, nI 0, (fun _ => 0), (fun _ => 0), (fun _ => 0), (fun _ => 0), (fun _ => 0), (fun _ => 0), (fun _ => 0), (fun _ => 0), (fun _ => 0), (fun _ => 0)) := fun k =>
    ci_mk (cap := cap) (dp := dp) (fs := fs) (fl := fl) (sb := fs) (lb := fl) (c := 0) ⟨by omega, by omega, by omega, ⟨fs1, fs2⟩, ⟨fl1, fl2⟩, ⟨fs1, fs2⟩, ⟨fl1, fl2⟩⟩ (ci_F2z V) ⟨fun i hi => absurd hi (by omega), fun k hk => Or.inl ⟨W k hk, rfl⟩⟩ (fun z => absurd rfl z)
  have Y105 : ∀ z0 : Int32, z0 = nI cap → wY_init_105 (fun v => i_Rel 4 (0, 1, 2, 3, 4, 5, 6, 7, 8, 9, 10, 11, 12, 13, (-1), (-2), (-3), (-1), (-2), 192, 10, 5, 4096, nI cap, nI dp, nI fs, nI fl, nI fs, nI fl, 0, 0, 0, 0, op, A, B, lab, (fun _ => 0), (fun _ => 0), (fun _ => 0), (fun _ => 0), (fun _ => 0), (fun _ => 0), (fun _ => 0), (fun _ => 0), (fun _ => 0), (fun _ => 0)) v) k3 z0 0 0 0 0 (fun _ => 0) (fun _ => 0) (fun _ => 0) (fun _ => 0) (fun _ => 0) (fun _ => 0) (fun _ => 0) (fun _ => 0) (fun _ => 0) (fun _ => 0) := by
    intro z0 ez
    rw [ez]
    unfold ci_cl at edp'
    refine br_c (fun c1 => br_c (fun c2 => ?_) (fun c2 => ?_)) (fun c1 => ?_)
    · rw [if_pos c1, if_pos c2] at edp'
      rw [edp']
      exact fin 4
    · rw [if_pos c1, if_neg c2] at edp'
      rw [edp']
      exact fin 4
    · rw [if_neg c1] at edp'
      rw [edp']
      exact fin 4
  unfold ci_cl at ecap'
  refine br_c (fun c1 => br_c (fun c2 => ?_) (fun c2 => ?_)) (fun c1 => ?_)
  · rw [if_pos c1, if_pos c2] at ecap'
    exact Y105 k0 ecap'
  · rw [if_pos c1, if_neg c2] at ecap'
    exact Y105 48 ecap'
  · rw [if_neg c1] at ecap'
    exact Y105 8 ecap'
theorem i_vc_label {k : Nat} {u : SX} {v : SY} (I : i_Rel k u v) (hk : k + 4 ≤ 2052) (v1 : Int32) : wpX_label (fun r u' => wpY_label (fun r' v' => r' = r ∧ i_Rel (k + 4) u' v') v v1) u v1 := by
  refine ci_el (P := fun u v => wpX_label (fun r u' => wpY_label (fun r' v' => r' = r ∧ i_Rel (k + 4) u' v') v v1) u v1) I ?_
  intro f_HALT f_MOVE f_ADD f_SUB f_MUL f_LOAD f_STORE f_CONST f_JUMP f_BZ f_BN f_CALL f_RET f_POOL f_VENEER f_AROUND f_LITERAL f_DIRECT f_WAITING f_CELLS f_JUMP_BITS f_IMMEDIATE_BITS f_FAR f_size f_literalRuns f_assembled a_lineOp a_lineA a_lineB a_labels a_addresses a_via a_cells a_kinds a_keys a_data a_stack a_held a_spot a_state b_ops b_as b_bs b_bound b_labelLine b_stack b_at cap dp fs fl sb lb c F1 F2 F3 F4
  by_cases h0 : v1 < 0
  · exact br_t h0 (br_t h0 ⟨rfl, ci_mk F1 F2 F3 F4⟩)
  · by_cases h15 : v1 ≤ 15
    · obtain ⟨j, hj, rfl⟩ := nI_of2 (M := 15) (n := 15) (by decide) h0 h15
      have ej : (nI j).toNatClampNeg = j := nI_clamp (by omega)
      have vj : vp_in (nI j) 16 := vp_in_nI (by omega) (by decide)
      rcases F3.2 j (by omega) with ⟨l1, l2⟩ | ⟨l1, l2, g, l3, l4⟩
      · have x1 : a_labels (nI j).toNatClampNeg = -4 := by rw [ej]; exact l1
        have y1 : b_bound (nI j).toNatClampNeg = 0 := by rw [ej]; exact l2
        by_cases ha : f_assembled = 0
        · refine br_f h0 (br_t h15 ⟨vj, br_t x1 (br_t ha ⟨vj, nm_r (e' := upd a_labels j (nI c)) (by rw [ej]) ?_⟩)⟩)
          refine br_f h0 (br_t h15 ⟨vj, br_t y1 (br_t ha ⟨vj, nm_r (e' := upd b_bound j 1) (by rw [ej, ci_vn1]) ⟨vj, nm_r (e' := upd b_labelLine j (nI c)) (by rw [ej]) ⟨rfl, ?_⟩⟩⟩)⟩)
          refine ci_mk F1 F2 ⟨F3.1, fun k hk => ?_⟩ (fun z => absurd ha z)
          by_cases e : k = j
          · subst e
            rw [pk_us, pk_us, pk_us]
            exact Or.inr ⟨by decide, rfl, c, Nat.le_refl _, rfl⟩
          · rw [pk_un e, pk_un e, pk_un e]
            exact F3.2 k hk
        · exact br_f h0 (br_t h15 ⟨vj, br_t x1 (br_f ha (br_f h0 (br_t h15 ⟨vj, br_t y1 (br_f ha ⟨rfl, ci_mk F1 F2 F3 F4⟩)⟩)))⟩)
      · have hc : c ≤ 48 := by have := F1.1; have := F1.2.1; omega
        have x1 : ¬ a_labels (nI j).toNatClampNeg = -4 := by rw [ej, l2, l4]; exact ci_n4 (by omega)
        have y1 : ¬ b_bound (nI j).toNatClampNeg = 0 := by rw [ej]; exact l1
        refine br_f h0 (br_t h15 ⟨vj, br_f x1 ⟨vj, br_f h0 (br_t h15 ⟨vj, br_f y1 ⟨vj, ?_, ci_mk F1 F2 F3 F4⟩⟩)⟩⟩)
        rw [ej]
        exact l2.symm
    · exact br_f h0 (br_f h15 (br_f h0 (br_f h15 ⟨rfl, ci_mk F1 F2 F3 F4⟩)))
end
section
/-! emit, one lemma an operation and a side -/
theorem ce_pX {post : Int32 → SX → Prop} {c : Nat} {u : SX} (h : post (nI c) u) : post (nI (c + 1) - 1) u := by rw [nI_pred]; exact h
theorem ce_pY {post : Int32 → SY → Prop} {c : Nat} {u : SY} (h : post (nI c) u) : post (nI (c + 1) - 1) u := by rw [nI_pred]; exact h
section
variable {f_HALT f_MOVE f_ADD f_SUB f_MUL f_LOAD f_STORE f_CONST f_JUMP f_BZ f_BN f_CALL f_RET f_POOL f_VENEER f_AROUND f_LITERAL f_DIRECT f_WAITING f_CELLS f_JUMP_BITS f_IMMEDIATE_BITS f_FAR f_capacity f_depth f_firstShortBits f_firstLoadBits f_shortBits f_loadBits f_count f_size f_literalRuns f_assembled : Int32} {a_lineOp a_lineA a_lineB a_labels a_addresses a_via a_cells a_kinds a_keys a_data a_stack a_held a_spot a_state : Nat → Int32} {c cap : Nat} {v2 v3 : Int32}
theorem ce_x0 {post : Int32 → SX → Prop} (hc : c ≤ 48) (hcap : cap ≤ 48) (ha : f_assembled = 0) (bad : ¬ (True ∧ True) → post (-1) (f_HALT, f_MOVE, f_ADD, f_SUB, f_MUL, f_LOAD, f_STORE, f_CONST, f_JUMP, f_BZ, f_BN, f_CALL, f_RET, f_POOL, f_VENEER, f_AROUND, f_LITERAL, f_DIRECT, f_WAITING, f_CELLS, f_JUMP_BITS, f_IMMEDIATE_BITS, f_FAR, nI cap, f_depth, f_firstShortBits, f_firstLoadBits, f_shortBits, f_loadBits, nI c, f_size, f_literalRuns, f_assembled, a_lineOp, a_lineA, a_lineB, a_labels, a_addresses, a_via, a_cells, a_kinds, a_keys, a_data, a_stack, a_held, a_spot, a_state)) (full : (True ∧ True) → cap ≤ c → post (-5) (f_HALT, f_MOVE, f_ADD, f_SUB, f_MUL, f_LOAD, f_STORE, f_CONST, f_JUMP, f_BZ, f_BN, f_CALL, f_RET, f_POOL, f_VENEER, f_AROUND, f_LITERAL, f_DIRECT, f_WAITING, f_CELLS, f_JUMP_BITS, f_IMMEDIATE_BITS, f_FAR, nI cap, f_depth, f_firstShortBits, f_firstLoadBits, f_shortBits, f_loadBits, nI c, f_size, f_literalRuns, f_assembled, a_lineOp, a_lineA, a_lineB, a_labels, a_addresses, a_via, a_cells, a_kinds, a_keys, a_data, a_stack, a_held, a_spot, a_state))
    (good : (True ∧ True) → c < cap → post (nI c) (f_HALT, f_MOVE, f_ADD, f_SUB, f_MUL, f_LOAD, f_STORE, f_CONST, f_JUMP, f_BZ, f_BN, f_CALL, f_RET, f_POOL, f_VENEER, f_AROUND, f_LITERAL, f_DIRECT, f_WAITING, f_CELLS, f_JUMP_BITS, f_IMMEDIATE_BITS, f_FAR, nI cap, f_depth, f_firstShortBits, f_firstLoadBits, f_shortBits, f_loadBits, nI (c + 1), f_size, f_literalRuns, f_assembled, upd a_lineOp c (nI 0), upd a_lineA c 0, upd a_lineB c 0, a_labels, a_addresses, a_via, a_cells, a_kinds, a_keys, a_data, a_stack, a_held, a_spot, a_state)) : wpX_emit post (f_HALT, f_MOVE, f_ADD, f_SUB, f_MUL, f_LOAD, f_STORE, f_CONST, f_JUMP, f_BZ, f_BN, f_CALL, f_RET, f_POOL, f_VENEER, f_AROUND, f_LITERAL, f_DIRECT, f_WAITING, f_CELLS, f_JUMP_BITS, f_IMMEDIATE_BITS, f_FAR, nI cap, f_depth, f_firstShortBits, f_firstLoadBits, f_shortBits, f_loadBits, nI c, f_size, f_literalRuns, f_assembled, a_lineOp, a_lineA, a_lineB, a_labels, a_addresses, a_via, a_cells, a_kinds, a_keys, a_data, a_stack, a_held, a_spot, a_state) (nI 0) v2 v3 := by
  have ec : (nI c).toNatClampNeg = c := nI_clamp (by omega)
  have vc : vp_in (nI c) 49 := vp_in_nI (by omega) (by decide)
  exact br_t ha (br_f (by decide) (br_t (by decide) (br_t (by decide) (br_t (by decide) (br_t (by decide) (br_f (by decide) (br_t (by decide) (pk_lt c cap (fun hc2 => ⟨vc, nm_r (e' := upd a_lineOp c (nI 0)) (by rw [ec]) (br_t (by decide) (⟨vc, nm_r (e' := upd a_lineA c 0) (by rw [ec]) (br_t (by decide) (br_f (by decide) (⟨vc, nm_r (e' := upd a_lineB c 0) (by rw [ec]) (nm_r (nI_1 c) (ce_pX (good ⟨trivial, trivial⟩ hc2)))⟩)))⟩))⟩) (fun hc2 => full ⟨trivial, trivial⟩ hc2)))))))))
theorem ce_x1 {post : Int32 → SX → Prop} (hc : c ≤ 48) (hcap : cap ≤ 48) (ha : f_assembled = 0) (bad : ¬ ((¬ v2 < 0 ∧ v2 ≤ 7) ∧ (¬ v3 < 0 ∧ v3 ≤ 7)) → post (-1) (f_HALT, f_MOVE, f_ADD, f_SUB, f_MUL, f_LOAD, f_STORE, f_CONST, f_JUMP, f_BZ, f_BN, f_CALL, f_RET, f_POOL, f_VENEER, f_AROUND, f_LITERAL, f_DIRECT, f_WAITING, f_CELLS, f_JUMP_BITS, f_IMMEDIATE_BITS, f_FAR, nI cap, f_depth, f_firstShortBits, f_firstLoadBits, f_shortBits, f_loadBits, nI c, f_size, f_literalRuns, f_assembled, a_lineOp, a_lineA, a_lineB, a_labels, a_addresses, a_via, a_cells, a_kinds, a_keys, a_data, a_stack, a_held, a_spot, a_state)) (full : ((¬ v2 < 0 ∧ v2 ≤ 7) ∧ (¬ v3 < 0 ∧ v3 ≤ 7)) → cap ≤ c → post (-5) (f_HALT, f_MOVE, f_ADD, f_SUB, f_MUL, f_LOAD, f_STORE, f_CONST, f_JUMP, f_BZ, f_BN, f_CALL, f_RET, f_POOL, f_VENEER, f_AROUND, f_LITERAL, f_DIRECT, f_WAITING, f_CELLS, f_JUMP_BITS, f_IMMEDIATE_BITS, f_FAR, nI cap, f_depth, f_firstShortBits, f_firstLoadBits, f_shortBits, f_loadBits, nI c, f_size, f_literalRuns, f_assembled, a_lineOp, a_lineA, a_lineB, a_labels, a_addresses, a_via, a_cells, a_kinds, a_keys, a_data, a_stack, a_held, a_spot, a_state))
    (good : ((¬ v2 < 0 ∧ v2 ≤ 7) ∧ (¬ v3 < 0 ∧ v3 ≤ 7)) → c < cap → post (nI c) (f_HALT, f_MOVE, f_ADD, f_SUB, f_MUL, f_LOAD, f_STORE, f_CONST, f_JUMP, f_BZ, f_BN, f_CALL, f_RET, f_POOL, f_VENEER, f_AROUND, f_LITERAL, f_DIRECT, f_WAITING, f_CELLS, f_JUMP_BITS, f_IMMEDIATE_BITS, f_FAR, nI cap, f_depth, f_firstShortBits, f_firstLoadBits, f_shortBits, f_loadBits, nI (c + 1), f_size, f_literalRuns, f_assembled, upd a_lineOp c (nI 1), upd a_lineA c v2, upd a_lineB c v3, a_labels, a_addresses, a_via, a_cells, a_kinds, a_keys, a_data, a_stack, a_held, a_spot, a_state)) : wpX_emit post (f_HALT, f_MOVE, f_ADD, f_SUB, f_MUL, f_LOAD, f_STORE, f_CONST, f_JUMP, f_BZ, f_BN, f_CALL, f_RET, f_POOL, f_VENEER, f_AROUND, f_LITERAL, f_DIRECT, f_WAITING, f_CELLS, f_JUMP_BITS, f_IMMEDIATE_BITS, f_FAR, nI cap, f_depth, f_firstShortBits, f_firstLoadBits, f_shortBits, f_loadBits, nI c, f_size, f_literalRuns, f_assembled, a_lineOp, a_lineA, a_lineB, a_labels, a_addresses, a_via, a_cells, a_kinds, a_keys, a_data, a_stack, a_held, a_spot, a_state) (nI 1) v2 v3 := by
  have ec : (nI c).toNatClampNeg = c := nI_clamp (by omega)
  have vc : vp_in (nI c) 49 := vp_in_nI (by omega) (by decide)
  exact br_t ha (br_f (by decide) (br_t (by decide) (br_f (by decide) (br_f (by decide) (br_f (by decide) (br_f (by decide) (br_c (fun a0 => bad (fun z => z.1.1 a0)) (fun a0 => br_c (fun a7 => br_f (by decide) (br_f (by decide) (br_f (by decide) (br_f (by decide) (br_f (by decide) (br_c (fun b0 => bad (fun z => z.2.1 b0)) (fun b0 => br_c (fun b7 => pk_lt c cap (fun hc2 => ⟨vc, nm_r (e' := upd a_lineOp c (nI 1)) (by rw [ec]) (br_f (by decide) (⟨vc, nm_r (e' := upd a_lineA c v2) (by rw [ec]) (br_f (by decide) (⟨vc, nm_r (e' := upd a_lineB c v3) (by rw [ec]) (nm_r (nI_1 c) (ce_pX (good ⟨⟨a0, a7⟩, ⟨b0, b7⟩⟩ hc2)))⟩))⟩))⟩) (fun hc2 => full ⟨⟨a0, a7⟩, ⟨b0, b7⟩⟩ hc2)) (fun b7 => bad (fun z => b7 z.2.2))))))))) (fun a7 => bad (fun z => a7 z.1.2))))))))))
theorem ce_x2 {post : Int32 → SX → Prop} (hc : c ≤ 48) (hcap : cap ≤ 48) (ha : f_assembled = 0) (bad : ¬ ((¬ v2 < 0 ∧ v2 ≤ 7) ∧ (¬ v3 < 0 ∧ v3 ≤ 7)) → post (-1) (f_HALT, f_MOVE, f_ADD, f_SUB, f_MUL, f_LOAD, f_STORE, f_CONST, f_JUMP, f_BZ, f_BN, f_CALL, f_RET, f_POOL, f_VENEER, f_AROUND, f_LITERAL, f_DIRECT, f_WAITING, f_CELLS, f_JUMP_BITS, f_IMMEDIATE_BITS, f_FAR, nI cap, f_depth, f_firstShortBits, f_firstLoadBits, f_shortBits, f_loadBits, nI c, f_size, f_literalRuns, f_assembled, a_lineOp, a_lineA, a_lineB, a_labels, a_addresses, a_via, a_cells, a_kinds, a_keys, a_data, a_stack, a_held, a_spot, a_state)) (full : ((¬ v2 < 0 ∧ v2 ≤ 7) ∧ (¬ v3 < 0 ∧ v3 ≤ 7)) → cap ≤ c → post (-5) (f_HALT, f_MOVE, f_ADD, f_SUB, f_MUL, f_LOAD, f_STORE, f_CONST, f_JUMP, f_BZ, f_BN, f_CALL, f_RET, f_POOL, f_VENEER, f_AROUND, f_LITERAL, f_DIRECT, f_WAITING, f_CELLS, f_JUMP_BITS, f_IMMEDIATE_BITS, f_FAR, nI cap, f_depth, f_firstShortBits, f_firstLoadBits, f_shortBits, f_loadBits, nI c, f_size, f_literalRuns, f_assembled, a_lineOp, a_lineA, a_lineB, a_labels, a_addresses, a_via, a_cells, a_kinds, a_keys, a_data, a_stack, a_held, a_spot, a_state))
    (good : ((¬ v2 < 0 ∧ v2 ≤ 7) ∧ (¬ v3 < 0 ∧ v3 ≤ 7)) → c < cap → post (nI c) (f_HALT, f_MOVE, f_ADD, f_SUB, f_MUL, f_LOAD, f_STORE, f_CONST, f_JUMP, f_BZ, f_BN, f_CALL, f_RET, f_POOL, f_VENEER, f_AROUND, f_LITERAL, f_DIRECT, f_WAITING, f_CELLS, f_JUMP_BITS, f_IMMEDIATE_BITS, f_FAR, nI cap, f_depth, f_firstShortBits, f_firstLoadBits, f_shortBits, f_loadBits, nI (c + 1), f_size, f_literalRuns, f_assembled, upd a_lineOp c (nI 2), upd a_lineA c v2, upd a_lineB c v3, a_labels, a_addresses, a_via, a_cells, a_kinds, a_keys, a_data, a_stack, a_held, a_spot, a_state)) : wpX_emit post (f_HALT, f_MOVE, f_ADD, f_SUB, f_MUL, f_LOAD, f_STORE, f_CONST, f_JUMP, f_BZ, f_BN, f_CALL, f_RET, f_POOL, f_VENEER, f_AROUND, f_LITERAL, f_DIRECT, f_WAITING, f_CELLS, f_JUMP_BITS, f_IMMEDIATE_BITS, f_FAR, nI cap, f_depth, f_firstShortBits, f_firstLoadBits, f_shortBits, f_loadBits, nI c, f_size, f_literalRuns, f_assembled, a_lineOp, a_lineA, a_lineB, a_labels, a_addresses, a_via, a_cells, a_kinds, a_keys, a_data, a_stack, a_held, a_spot, a_state) (nI 2) v2 v3 := by
  have ec : (nI c).toNatClampNeg = c := nI_clamp (by omega)
  have vc : vp_in (nI c) 49 := vp_in_nI (by omega) (by decide)
  exact br_t ha (br_f (by decide) (br_t (by decide) (br_f (by decide) (br_f (by decide) (br_f (by decide) (br_f (by decide) (br_c (fun a0 => bad (fun z => z.1.1 a0)) (fun a0 => br_c (fun a7 => br_f (by decide) (br_f (by decide) (br_f (by decide) (br_f (by decide) (br_f (by decide) (br_c (fun b0 => bad (fun z => z.2.1 b0)) (fun b0 => br_c (fun b7 => pk_lt c cap (fun hc2 => ⟨vc, nm_r (e' := upd a_lineOp c (nI 2)) (by rw [ec]) (br_f (by decide) (⟨vc, nm_r (e' := upd a_lineA c v2) (by rw [ec]) (br_f (by decide) (⟨vc, nm_r (e' := upd a_lineB c v3) (by rw [ec]) (nm_r (nI_1 c) (ce_pX (good ⟨⟨a0, a7⟩, ⟨b0, b7⟩⟩ hc2)))⟩))⟩))⟩) (fun hc2 => full ⟨⟨a0, a7⟩, ⟨b0, b7⟩⟩ hc2)) (fun b7 => bad (fun z => b7 z.2.2))))))))) (fun a7 => bad (fun z => a7 z.1.2))))))))))
theorem ce_x3 {post : Int32 → SX → Prop} (hc : c ≤ 48) (hcap : cap ≤ 48) (ha : f_assembled = 0) (bad : ¬ ((¬ v2 < 0 ∧ v2 ≤ 7) ∧ (¬ v3 < 0 ∧ v3 ≤ 7)) → post (-1) (f_HALT, f_MOVE, f_ADD, f_SUB, f_MUL, f_LOAD, f_STORE, f_CONST, f_JUMP, f_BZ, f_BN, f_CALL, f_RET, f_POOL, f_VENEER, f_AROUND, f_LITERAL, f_DIRECT, f_WAITING, f_CELLS, f_JUMP_BITS, f_IMMEDIATE_BITS, f_FAR, nI cap, f_depth, f_firstShortBits, f_firstLoadBits, f_shortBits, f_loadBits, nI c, f_size, f_literalRuns, f_assembled, a_lineOp, a_lineA, a_lineB, a_labels, a_addresses, a_via, a_cells, a_kinds, a_keys, a_data, a_stack, a_held, a_spot, a_state)) (full : ((¬ v2 < 0 ∧ v2 ≤ 7) ∧ (¬ v3 < 0 ∧ v3 ≤ 7)) → cap ≤ c → post (-5) (f_HALT, f_MOVE, f_ADD, f_SUB, f_MUL, f_LOAD, f_STORE, f_CONST, f_JUMP, f_BZ, f_BN, f_CALL, f_RET, f_POOL, f_VENEER, f_AROUND, f_LITERAL, f_DIRECT, f_WAITING, f_CELLS, f_JUMP_BITS, f_IMMEDIATE_BITS, f_FAR, nI cap, f_depth, f_firstShortBits, f_firstLoadBits, f_shortBits, f_loadBits, nI c, f_size, f_literalRuns, f_assembled, a_lineOp, a_lineA, a_lineB, a_labels, a_addresses, a_via, a_cells, a_kinds, a_keys, a_data, a_stack, a_held, a_spot, a_state))
    (good : ((¬ v2 < 0 ∧ v2 ≤ 7) ∧ (¬ v3 < 0 ∧ v3 ≤ 7)) → c < cap → post (nI c) (f_HALT, f_MOVE, f_ADD, f_SUB, f_MUL, f_LOAD, f_STORE, f_CONST, f_JUMP, f_BZ, f_BN, f_CALL, f_RET, f_POOL, f_VENEER, f_AROUND, f_LITERAL, f_DIRECT, f_WAITING, f_CELLS, f_JUMP_BITS, f_IMMEDIATE_BITS, f_FAR, nI cap, f_depth, f_firstShortBits, f_firstLoadBits, f_shortBits, f_loadBits, nI (c + 1), f_size, f_literalRuns, f_assembled, upd a_lineOp c (nI 3), upd a_lineA c v2, upd a_lineB c v3, a_labels, a_addresses, a_via, a_cells, a_kinds, a_keys, a_data, a_stack, a_held, a_spot, a_state)) : wpX_emit post (f_HALT, f_MOVE, f_ADD, f_SUB, f_MUL, f_LOAD, f_STORE, f_CONST, f_JUMP, f_BZ, f_BN, f_CALL, f_RET, f_POOL, f_VENEER, f_AROUND, f_LITERAL, f_DIRECT, f_WAITING, f_CELLS, f_JUMP_BITS, f_IMMEDIATE_BITS, f_FAR, nI cap, f_depth, f_firstShortBits, f_firstLoadBits, f_shortBits, f_loadBits, nI c, f_size, f_literalRuns, f_assembled, a_lineOp, a_lineA, a_lineB, a_labels, a_addresses, a_via, a_cells, a_kinds, a_keys, a_data, a_stack, a_held, a_spot, a_state) (nI 3) v2 v3 := by
  have ec : (nI c).toNatClampNeg = c := nI_clamp (by omega)
  have vc : vp_in (nI c) 49 := vp_in_nI (by omega) (by decide)
  exact br_t ha (br_f (by decide) (br_t (by decide) (br_f (by decide) (br_f (by decide) (br_f (by decide) (br_f (by decide) (br_c (fun a0 => bad (fun z => z.1.1 a0)) (fun a0 => br_c (fun a7 => br_f (by decide) (br_f (by decide) (br_f (by decide) (br_f (by decide) (br_f (by decide) (br_c (fun b0 => bad (fun z => z.2.1 b0)) (fun b0 => br_c (fun b7 => pk_lt c cap (fun hc2 => ⟨vc, nm_r (e' := upd a_lineOp c (nI 3)) (by rw [ec]) (br_f (by decide) (⟨vc, nm_r (e' := upd a_lineA c v2) (by rw [ec]) (br_f (by decide) (⟨vc, nm_r (e' := upd a_lineB c v3) (by rw [ec]) (nm_r (nI_1 c) (ce_pX (good ⟨⟨a0, a7⟩, ⟨b0, b7⟩⟩ hc2)))⟩))⟩))⟩) (fun hc2 => full ⟨⟨a0, a7⟩, ⟨b0, b7⟩⟩ hc2)) (fun b7 => bad (fun z => b7 z.2.2))))))))) (fun a7 => bad (fun z => a7 z.1.2))))))))))
theorem ce_x4 {post : Int32 → SX → Prop} (hc : c ≤ 48) (hcap : cap ≤ 48) (ha : f_assembled = 0) (bad : ¬ ((¬ v2 < 0 ∧ v2 ≤ 7) ∧ (¬ v3 < 0 ∧ v3 ≤ 7)) → post (-1) (f_HALT, f_MOVE, f_ADD, f_SUB, f_MUL, f_LOAD, f_STORE, f_CONST, f_JUMP, f_BZ, f_BN, f_CALL, f_RET, f_POOL, f_VENEER, f_AROUND, f_LITERAL, f_DIRECT, f_WAITING, f_CELLS, f_JUMP_BITS, f_IMMEDIATE_BITS, f_FAR, nI cap, f_depth, f_firstShortBits, f_firstLoadBits, f_shortBits, f_loadBits, nI c, f_size, f_literalRuns, f_assembled, a_lineOp, a_lineA, a_lineB, a_labels, a_addresses, a_via, a_cells, a_kinds, a_keys, a_data, a_stack, a_held, a_spot, a_state)) (full : ((¬ v2 < 0 ∧ v2 ≤ 7) ∧ (¬ v3 < 0 ∧ v3 ≤ 7)) → cap ≤ c → post (-5) (f_HALT, f_MOVE, f_ADD, f_SUB, f_MUL, f_LOAD, f_STORE, f_CONST, f_JUMP, f_BZ, f_BN, f_CALL, f_RET, f_POOL, f_VENEER, f_AROUND, f_LITERAL, f_DIRECT, f_WAITING, f_CELLS, f_JUMP_BITS, f_IMMEDIATE_BITS, f_FAR, nI cap, f_depth, f_firstShortBits, f_firstLoadBits, f_shortBits, f_loadBits, nI c, f_size, f_literalRuns, f_assembled, a_lineOp, a_lineA, a_lineB, a_labels, a_addresses, a_via, a_cells, a_kinds, a_keys, a_data, a_stack, a_held, a_spot, a_state))
    (good : ((¬ v2 < 0 ∧ v2 ≤ 7) ∧ (¬ v3 < 0 ∧ v3 ≤ 7)) → c < cap → post (nI c) (f_HALT, f_MOVE, f_ADD, f_SUB, f_MUL, f_LOAD, f_STORE, f_CONST, f_JUMP, f_BZ, f_BN, f_CALL, f_RET, f_POOL, f_VENEER, f_AROUND, f_LITERAL, f_DIRECT, f_WAITING, f_CELLS, f_JUMP_BITS, f_IMMEDIATE_BITS, f_FAR, nI cap, f_depth, f_firstShortBits, f_firstLoadBits, f_shortBits, f_loadBits, nI (c + 1), f_size, f_literalRuns, f_assembled, upd a_lineOp c (nI 4), upd a_lineA c v2, upd a_lineB c v3, a_labels, a_addresses, a_via, a_cells, a_kinds, a_keys, a_data, a_stack, a_held, a_spot, a_state)) : wpX_emit post (f_HALT, f_MOVE, f_ADD, f_SUB, f_MUL, f_LOAD, f_STORE, f_CONST, f_JUMP, f_BZ, f_BN, f_CALL, f_RET, f_POOL, f_VENEER, f_AROUND, f_LITERAL, f_DIRECT, f_WAITING, f_CELLS, f_JUMP_BITS, f_IMMEDIATE_BITS, f_FAR, nI cap, f_depth, f_firstShortBits, f_firstLoadBits, f_shortBits, f_loadBits, nI c, f_size, f_literalRuns, f_assembled, a_lineOp, a_lineA, a_lineB, a_labels, a_addresses, a_via, a_cells, a_kinds, a_keys, a_data, a_stack, a_held, a_spot, a_state) (nI 4) v2 v3 := by
  have ec : (nI c).toNatClampNeg = c := nI_clamp (by omega)
  have vc : vp_in (nI c) 49 := vp_in_nI (by omega) (by decide)
  exact br_t ha (br_f (by decide) (br_t (by decide) (br_f (by decide) (br_f (by decide) (br_f (by decide) (br_f (by decide) (br_c (fun a0 => bad (fun z => z.1.1 a0)) (fun a0 => br_c (fun a7 => br_f (by decide) (br_f (by decide) (br_f (by decide) (br_f (by decide) (br_f (by decide) (br_c (fun b0 => bad (fun z => z.2.1 b0)) (fun b0 => br_c (fun b7 => pk_lt c cap (fun hc2 => ⟨vc, nm_r (e' := upd a_lineOp c (nI 4)) (by rw [ec]) (br_f (by decide) (⟨vc, nm_r (e' := upd a_lineA c v2) (by rw [ec]) (br_f (by decide) (⟨vc, nm_r (e' := upd a_lineB c v3) (by rw [ec]) (nm_r (nI_1 c) (ce_pX (good ⟨⟨a0, a7⟩, ⟨b0, b7⟩⟩ hc2)))⟩))⟩))⟩) (fun hc2 => full ⟨⟨a0, a7⟩, ⟨b0, b7⟩⟩ hc2)) (fun b7 => bad (fun z => b7 z.2.2))))))))) (fun a7 => bad (fun z => a7 z.1.2))))))))))
theorem ce_x5 {post : Int32 → SX → Prop} (hc : c ≤ 48) (hcap : cap ≤ 48) (ha : f_assembled = 0) (bad : ¬ ((¬ v2 < 0 ∧ v2 ≤ 7) ∧ (¬ v3 < 0 ∧ v3 ≤ 7)) → post (-1) (f_HALT, f_MOVE, f_ADD, f_SUB, f_MUL, f_LOAD, f_STORE, f_CONST, f_JUMP, f_BZ, f_BN, f_CALL, f_RET, f_POOL, f_VENEER, f_AROUND, f_LITERAL, f_DIRECT, f_WAITING, f_CELLS, f_JUMP_BITS, f_IMMEDIATE_BITS, f_FAR, nI cap, f_depth, f_firstShortBits, f_firstLoadBits, f_shortBits, f_loadBits, nI c, f_size, f_literalRuns, f_assembled, a_lineOp, a_lineA, a_lineB, a_labels, a_addresses, a_via, a_cells, a_kinds, a_keys, a_data, a_stack, a_held, a_spot, a_state)) (full : ((¬ v2 < 0 ∧ v2 ≤ 7) ∧ (¬ v3 < 0 ∧ v3 ≤ 7)) → cap ≤ c → post (-5) (f_HALT, f_MOVE, f_ADD, f_SUB, f_MUL, f_LOAD, f_STORE, f_CONST, f_JUMP, f_BZ, f_BN, f_CALL, f_RET, f_POOL, f_VENEER, f_AROUND, f_LITERAL, f_DIRECT, f_WAITING, f_CELLS, f_JUMP_BITS, f_IMMEDIATE_BITS, f_FAR, nI cap, f_depth, f_firstShortBits, f_firstLoadBits, f_shortBits, f_loadBits, nI c, f_size, f_literalRuns, f_assembled, a_lineOp, a_lineA, a_lineB, a_labels, a_addresses, a_via, a_cells, a_kinds, a_keys, a_data, a_stack, a_held, a_spot, a_state))
    (good : ((¬ v2 < 0 ∧ v2 ≤ 7) ∧ (¬ v3 < 0 ∧ v3 ≤ 7)) → c < cap → post (nI c) (f_HALT, f_MOVE, f_ADD, f_SUB, f_MUL, f_LOAD, f_STORE, f_CONST, f_JUMP, f_BZ, f_BN, f_CALL, f_RET, f_POOL, f_VENEER, f_AROUND, f_LITERAL, f_DIRECT, f_WAITING, f_CELLS, f_JUMP_BITS, f_IMMEDIATE_BITS, f_FAR, nI cap, f_depth, f_firstShortBits, f_firstLoadBits, f_shortBits, f_loadBits, nI (c + 1), f_size, f_literalRuns, f_assembled, upd a_lineOp c (nI 5), upd a_lineA c v2, upd a_lineB c v3, a_labels, a_addresses, a_via, a_cells, a_kinds, a_keys, a_data, a_stack, a_held, a_spot, a_state)) : wpX_emit post (f_HALT, f_MOVE, f_ADD, f_SUB, f_MUL, f_LOAD, f_STORE, f_CONST, f_JUMP, f_BZ, f_BN, f_CALL, f_RET, f_POOL, f_VENEER, f_AROUND, f_LITERAL, f_DIRECT, f_WAITING, f_CELLS, f_JUMP_BITS, f_IMMEDIATE_BITS, f_FAR, nI cap, f_depth, f_firstShortBits, f_firstLoadBits, f_shortBits, f_loadBits, nI c, f_size, f_literalRuns, f_assembled, a_lineOp, a_lineA, a_lineB, a_labels, a_addresses, a_via, a_cells, a_kinds, a_keys, a_data, a_stack, a_held, a_spot, a_state) (nI 5) v2 v3 := by
  have ec : (nI c).toNatClampNeg = c := nI_clamp (by omega)
  have vc : vp_in (nI c) 49 := vp_in_nI (by omega) (by decide)
  exact br_t ha (br_f (by decide) (br_t (by decide) (br_f (by decide) (br_f (by decide) (br_f (by decide) (br_f (by decide) (br_c (fun a0 => bad (fun z => z.1.1 a0)) (fun a0 => br_c (fun a7 => br_f (by decide) (br_f (by decide) (br_f (by decide) (br_f (by decide) (br_f (by decide) (br_c (fun b0 => bad (fun z => z.2.1 b0)) (fun b0 => br_c (fun b7 => pk_lt c cap (fun hc2 => ⟨vc, nm_r (e' := upd a_lineOp c (nI 5)) (by rw [ec]) (br_f (by decide) (⟨vc, nm_r (e' := upd a_lineA c v2) (by rw [ec]) (br_f (by decide) (⟨vc, nm_r (e' := upd a_lineB c v3) (by rw [ec]) (nm_r (nI_1 c) (ce_pX (good ⟨⟨a0, a7⟩, ⟨b0, b7⟩⟩ hc2)))⟩))⟩))⟩) (fun hc2 => full ⟨⟨a0, a7⟩, ⟨b0, b7⟩⟩ hc2)) (fun b7 => bad (fun z => b7 z.2.2))))))))) (fun a7 => bad (fun z => a7 z.1.2))))))))))
theorem ce_x6 {post : Int32 → SX → Prop} (hc : c ≤ 48) (hcap : cap ≤ 48) (ha : f_assembled = 0) (bad : ¬ ((¬ v2 < 0 ∧ v2 ≤ 7) ∧ (¬ v3 < 0 ∧ v3 ≤ 7)) → post (-1) (f_HALT, f_MOVE, f_ADD, f_SUB, f_MUL, f_LOAD, f_STORE, f_CONST, f_JUMP, f_BZ, f_BN, f_CALL, f_RET, f_POOL, f_VENEER, f_AROUND, f_LITERAL, f_DIRECT, f_WAITING, f_CELLS, f_JUMP_BITS, f_IMMEDIATE_BITS, f_FAR, nI cap, f_depth, f_firstShortBits, f_firstLoadBits, f_shortBits, f_loadBits, nI c, f_size, f_literalRuns, f_assembled, a_lineOp, a_lineA, a_lineB, a_labels, a_addresses, a_via, a_cells, a_kinds, a_keys, a_data, a_stack, a_held, a_spot, a_state)) (full : ((¬ v2 < 0 ∧ v2 ≤ 7) ∧ (¬ v3 < 0 ∧ v3 ≤ 7)) → cap ≤ c → post (-5) (f_HALT, f_MOVE, f_ADD, f_SUB, f_MUL, f_LOAD, f_STORE, f_CONST, f_JUMP, f_BZ, f_BN, f_CALL, f_RET, f_POOL, f_VENEER, f_AROUND, f_LITERAL, f_DIRECT, f_WAITING, f_CELLS, f_JUMP_BITS, f_IMMEDIATE_BITS, f_FAR, nI cap, f_depth, f_firstShortBits, f_firstLoadBits, f_shortBits, f_loadBits, nI c, f_size, f_literalRuns, f_assembled, a_lineOp, a_lineA, a_lineB, a_labels, a_addresses, a_via, a_cells, a_kinds, a_keys, a_data, a_stack, a_held, a_spot, a_state))
    (good : ((¬ v2 < 0 ∧ v2 ≤ 7) ∧ (¬ v3 < 0 ∧ v3 ≤ 7)) → c < cap → post (nI c) (f_HALT, f_MOVE, f_ADD, f_SUB, f_MUL, f_LOAD, f_STORE, f_CONST, f_JUMP, f_BZ, f_BN, f_CALL, f_RET, f_POOL, f_VENEER, f_AROUND, f_LITERAL, f_DIRECT, f_WAITING, f_CELLS, f_JUMP_BITS, f_IMMEDIATE_BITS, f_FAR, nI cap, f_depth, f_firstShortBits, f_firstLoadBits, f_shortBits, f_loadBits, nI (c + 1), f_size, f_literalRuns, f_assembled, upd a_lineOp c (nI 6), upd a_lineA c v2, upd a_lineB c v3, a_labels, a_addresses, a_via, a_cells, a_kinds, a_keys, a_data, a_stack, a_held, a_spot, a_state)) : wpX_emit post (f_HALT, f_MOVE, f_ADD, f_SUB, f_MUL, f_LOAD, f_STORE, f_CONST, f_JUMP, f_BZ, f_BN, f_CALL, f_RET, f_POOL, f_VENEER, f_AROUND, f_LITERAL, f_DIRECT, f_WAITING, f_CELLS, f_JUMP_BITS, f_IMMEDIATE_BITS, f_FAR, nI cap, f_depth, f_firstShortBits, f_firstLoadBits, f_shortBits, f_loadBits, nI c, f_size, f_literalRuns, f_assembled, a_lineOp, a_lineA, a_lineB, a_labels, a_addresses, a_via, a_cells, a_kinds, a_keys, a_data, a_stack, a_held, a_spot, a_state) (nI 6) v2 v3 := by
  have ec : (nI c).toNatClampNeg = c := nI_clamp (by omega)
  have vc : vp_in (nI c) 49 := vp_in_nI (by omega) (by decide)
  exact br_t ha (br_f (by decide) (br_t (by decide) (br_f (by decide) (br_f (by decide) (br_f (by decide) (br_f (by decide) (br_c (fun a0 => bad (fun z => z.1.1 a0)) (fun a0 => br_c (fun a7 => br_f (by decide) (br_f (by decide) (br_f (by decide) (br_f (by decide) (br_f (by decide) (br_c (fun b0 => bad (fun z => z.2.1 b0)) (fun b0 => br_c (fun b7 => pk_lt c cap (fun hc2 => ⟨vc, nm_r (e' := upd a_lineOp c (nI 6)) (by rw [ec]) (br_f (by decide) (⟨vc, nm_r (e' := upd a_lineA c v2) (by rw [ec]) (br_f (by decide) (⟨vc, nm_r (e' := upd a_lineB c v3) (by rw [ec]) (nm_r (nI_1 c) (ce_pX (good ⟨⟨a0, a7⟩, ⟨b0, b7⟩⟩ hc2)))⟩))⟩))⟩) (fun hc2 => full ⟨⟨a0, a7⟩, ⟨b0, b7⟩⟩ hc2)) (fun b7 => bad (fun z => b7 z.2.2))))))))) (fun a7 => bad (fun z => a7 z.1.2))))))))))
theorem ce_x7 {post : Int32 → SX → Prop} (hc : c ≤ 48) (hcap : cap ≤ 48) (ha : f_assembled = 0) (bad : ¬ ((¬ v2 < 0 ∧ v2 ≤ 7) ∧ True) → post (-1) (f_HALT, f_MOVE, f_ADD, f_SUB, f_MUL, f_LOAD, f_STORE, f_CONST, f_JUMP, f_BZ, f_BN, f_CALL, f_RET, f_POOL, f_VENEER, f_AROUND, f_LITERAL, f_DIRECT, f_WAITING, f_CELLS, f_JUMP_BITS, f_IMMEDIATE_BITS, f_FAR, nI cap, f_depth, f_firstShortBits, f_firstLoadBits, f_shortBits, f_loadBits, nI c, f_size, f_literalRuns, f_assembled, a_lineOp, a_lineA, a_lineB, a_labels, a_addresses, a_via, a_cells, a_kinds, a_keys, a_data, a_stack, a_held, a_spot, a_state)) (full : ((¬ v2 < 0 ∧ v2 ≤ 7) ∧ True) → cap ≤ c → post (-5) (f_HALT, f_MOVE, f_ADD, f_SUB, f_MUL, f_LOAD, f_STORE, f_CONST, f_JUMP, f_BZ, f_BN, f_CALL, f_RET, f_POOL, f_VENEER, f_AROUND, f_LITERAL, f_DIRECT, f_WAITING, f_CELLS, f_JUMP_BITS, f_IMMEDIATE_BITS, f_FAR, nI cap, f_depth, f_firstShortBits, f_firstLoadBits, f_shortBits, f_loadBits, nI c, f_size, f_literalRuns, f_assembled, a_lineOp, a_lineA, a_lineB, a_labels, a_addresses, a_via, a_cells, a_kinds, a_keys, a_data, a_stack, a_held, a_spot, a_state))
    (good : ((¬ v2 < 0 ∧ v2 ≤ 7) ∧ True) → c < cap → post (nI c) (f_HALT, f_MOVE, f_ADD, f_SUB, f_MUL, f_LOAD, f_STORE, f_CONST, f_JUMP, f_BZ, f_BN, f_CALL, f_RET, f_POOL, f_VENEER, f_AROUND, f_LITERAL, f_DIRECT, f_WAITING, f_CELLS, f_JUMP_BITS, f_IMMEDIATE_BITS, f_FAR, nI cap, f_depth, f_firstShortBits, f_firstLoadBits, f_shortBits, f_loadBits, nI (c + 1), f_size, f_literalRuns, f_assembled, upd a_lineOp c (nI 7), upd a_lineA c v2, upd a_lineB c v3, a_labels, a_addresses, a_via, a_cells, a_kinds, a_keys, a_data, a_stack, a_held, a_spot, a_state)) : wpX_emit post (f_HALT, f_MOVE, f_ADD, f_SUB, f_MUL, f_LOAD, f_STORE, f_CONST, f_JUMP, f_BZ, f_BN, f_CALL, f_RET, f_POOL, f_VENEER, f_AROUND, f_LITERAL, f_DIRECT, f_WAITING, f_CELLS, f_JUMP_BITS, f_IMMEDIATE_BITS, f_FAR, nI cap, f_depth, f_firstShortBits, f_firstLoadBits, f_shortBits, f_loadBits, nI c, f_size, f_literalRuns, f_assembled, a_lineOp, a_lineA, a_lineB, a_labels, a_addresses, a_via, a_cells, a_kinds, a_keys, a_data, a_stack, a_held, a_spot, a_state) (nI 7) v2 v3 := by
  have ec : (nI c).toNatClampNeg = c := nI_clamp (by omega)
  have vc : vp_in (nI c) 49 := vp_in_nI (by omega) (by decide)
  exact br_t ha (br_f (by decide) (br_t (by decide) (br_f (by decide) (br_f (by decide) (br_f (by decide) (br_f (by decide) (br_c (fun a0 => bad (fun z => z.1.1 a0)) (fun a0 => br_c (fun a7 => br_f (by decide) (br_t (by decide) (br_t (by decide) (br_t (by decide) (pk_lt c cap (fun hc2 => ⟨vc, nm_r (e' := upd a_lineOp c (nI 7)) (by rw [ec]) (br_f (by decide) (⟨vc, nm_r (e' := upd a_lineA c v2) (by rw [ec]) (br_t (by decide) (br_t (by decide) (⟨vc, nm_r (e' := upd a_lineB c v3) (by rw [ec]) (nm_r (nI_1 c) (ce_pX (good ⟨⟨a0, a7⟩, trivial⟩ hc2)))⟩)))⟩))⟩) (fun hc2 => full ⟨⟨a0, a7⟩, trivial⟩ hc2)))))) (fun a7 => bad (fun z => a7 z.1.2))))))))))
theorem ce_x8 {post : Int32 → SX → Prop} (hc : c ≤ 48) (hcap : cap ≤ 48) (ha : f_assembled = 0) (bad : ¬ (True ∧ (¬ v3 < 0 ∧ v3 ≤ 15)) → post (-1) (f_HALT, f_MOVE, f_ADD, f_SUB, f_MUL, f_LOAD, f_STORE, f_CONST, f_JUMP, f_BZ, f_BN, f_CALL, f_RET, f_POOL, f_VENEER, f_AROUND, f_LITERAL, f_DIRECT, f_WAITING, f_CELLS, f_JUMP_BITS, f_IMMEDIATE_BITS, f_FAR, nI cap, f_depth, f_firstShortBits, f_firstLoadBits, f_shortBits, f_loadBits, nI c, f_size, f_literalRuns, f_assembled, a_lineOp, a_lineA, a_lineB, a_labels, a_addresses, a_via, a_cells, a_kinds, a_keys, a_data, a_stack, a_held, a_spot, a_state)) (full : (True ∧ (¬ v3 < 0 ∧ v3 ≤ 15)) → cap ≤ c → post (-5) (f_HALT, f_MOVE, f_ADD, f_SUB, f_MUL, f_LOAD, f_STORE, f_CONST, f_JUMP, f_BZ, f_BN, f_CALL, f_RET, f_POOL, f_VENEER, f_AROUND, f_LITERAL, f_DIRECT, f_WAITING, f_CELLS, f_JUMP_BITS, f_IMMEDIATE_BITS, f_FAR, nI cap, f_depth, f_firstShortBits, f_firstLoadBits, f_shortBits, f_loadBits, nI c, f_size, f_literalRuns, f_assembled, a_lineOp, a_lineA, a_lineB, a_labels, a_addresses, a_via, a_cells, a_kinds, a_keys, a_data, a_stack, a_held, a_spot, a_state))
    (good : (True ∧ (¬ v3 < 0 ∧ v3 ≤ 15)) → c < cap → post (nI c) (f_HALT, f_MOVE, f_ADD, f_SUB, f_MUL, f_LOAD, f_STORE, f_CONST, f_JUMP, f_BZ, f_BN, f_CALL, f_RET, f_POOL, f_VENEER, f_AROUND, f_LITERAL, f_DIRECT, f_WAITING, f_CELLS, f_JUMP_BITS, f_IMMEDIATE_BITS, f_FAR, nI cap, f_depth, f_firstShortBits, f_firstLoadBits, f_shortBits, f_loadBits, nI (c + 1), f_size, f_literalRuns, f_assembled, upd a_lineOp c (nI 8), upd a_lineA c 0, upd a_lineB c v3, a_labels, a_addresses, a_via, a_cells, a_kinds, a_keys, a_data, a_stack, a_held, a_spot, a_state)) : wpX_emit post (f_HALT, f_MOVE, f_ADD, f_SUB, f_MUL, f_LOAD, f_STORE, f_CONST, f_JUMP, f_BZ, f_BN, f_CALL, f_RET, f_POOL, f_VENEER, f_AROUND, f_LITERAL, f_DIRECT, f_WAITING, f_CELLS, f_JUMP_BITS, f_IMMEDIATE_BITS, f_FAR, nI cap, f_depth, f_firstShortBits, f_firstLoadBits, f_shortBits, f_loadBits, nI c, f_size, f_literalRuns, f_assembled, a_lineOp, a_lineA, a_lineB, a_labels, a_addresses, a_via, a_cells, a_kinds, a_keys, a_data, a_stack, a_held, a_spot, a_state) (nI 8) v2 v3 := by
  have ec : (nI c).toNatClampNeg = c := nI_clamp (by omega)
  have vc : vp_in (nI c) 49 := vp_in_nI (by omega) (by decide)
  exact br_t ha (br_f (by decide) (br_t (by decide) (br_f (by decide) (br_t (by decide) (br_t (by decide) (br_f (by decide) (br_f (by decide) (br_f (by decide) (br_t (by decide) (br_f (by decide) (br_c (fun b0 => bad (fun z => z.2.1 b0)) (fun b0 => br_c (fun b7 => pk_lt c cap (fun hc2 => ⟨vc, nm_r (e' := upd a_lineOp c (nI 8)) (by rw [ec]) (br_t (by decide) (⟨vc, nm_r (e' := upd a_lineA c 0) (by rw [ec]) (br_f (by decide) (⟨vc, nm_r (e' := upd a_lineB c v3) (by rw [ec]) (nm_r (nI_1 c) (ce_pX (good ⟨trivial, ⟨b0, b7⟩⟩ hc2)))⟩))⟩))⟩) (fun hc2 => full ⟨trivial, ⟨b0, b7⟩⟩ hc2)) (fun b7 => bad (fun z => b7 z.2.2))))))))))))))
theorem ce_x9 {post : Int32 → SX → Prop} (hc : c ≤ 48) (hcap : cap ≤ 48) (ha : f_assembled = 0) (bad : ¬ ((¬ v2 < 0 ∧ v2 ≤ 7) ∧ (¬ v3 < 0 ∧ v3 ≤ 15)) → post (-1) (f_HALT, f_MOVE, f_ADD, f_SUB, f_MUL, f_LOAD, f_STORE, f_CONST, f_JUMP, f_BZ, f_BN, f_CALL, f_RET, f_POOL, f_VENEER, f_AROUND, f_LITERAL, f_DIRECT, f_WAITING, f_CELLS, f_JUMP_BITS, f_IMMEDIATE_BITS, f_FAR, nI cap, f_depth, f_firstShortBits, f_firstLoadBits, f_shortBits, f_loadBits, nI c, f_size, f_literalRuns, f_assembled, a_lineOp, a_lineA, a_lineB, a_labels, a_addresses, a_via, a_cells, a_kinds, a_keys, a_data, a_stack, a_held, a_spot, a_state)) (full : ((¬ v2 < 0 ∧ v2 ≤ 7) ∧ (¬ v3 < 0 ∧ v3 ≤ 15)) → cap ≤ c → post (-5) (f_HALT, f_MOVE, f_ADD, f_SUB, f_MUL, f_LOAD, f_STORE, f_CONST, f_JUMP, f_BZ, f_BN, f_CALL, f_RET, f_POOL, f_VENEER, f_AROUND, f_LITERAL, f_DIRECT, f_WAITING, f_CELLS, f_JUMP_BITS, f_IMMEDIATE_BITS, f_FAR, nI cap, f_depth, f_firstShortBits, f_firstLoadBits, f_shortBits, f_loadBits, nI c, f_size, f_literalRuns, f_assembled, a_lineOp, a_lineA, a_lineB, a_labels, a_addresses, a_via, a_cells, a_kinds, a_keys, a_data, a_stack, a_held, a_spot, a_state))
    (good : ((¬ v2 < 0 ∧ v2 ≤ 7) ∧ (¬ v3 < 0 ∧ v3 ≤ 15)) → c < cap → post (nI c) (f_HALT, f_MOVE, f_ADD, f_SUB, f_MUL, f_LOAD, f_STORE, f_CONST, f_JUMP, f_BZ, f_BN, f_CALL, f_RET, f_POOL, f_VENEER, f_AROUND, f_LITERAL, f_DIRECT, f_WAITING, f_CELLS, f_JUMP_BITS, f_IMMEDIATE_BITS, f_FAR, nI cap, f_depth, f_firstShortBits, f_firstLoadBits, f_shortBits, f_loadBits, nI (c + 1), f_size, f_literalRuns, f_assembled, upd a_lineOp c (nI 9), upd a_lineA c v2, upd a_lineB c v3, a_labels, a_addresses, a_via, a_cells, a_kinds, a_keys, a_data, a_stack, a_held, a_spot, a_state)) : wpX_emit post (f_HALT, f_MOVE, f_ADD, f_SUB, f_MUL, f_LOAD, f_STORE, f_CONST, f_JUMP, f_BZ, f_BN, f_CALL, f_RET, f_POOL, f_VENEER, f_AROUND, f_LITERAL, f_DIRECT, f_WAITING, f_CELLS, f_JUMP_BITS, f_IMMEDIATE_BITS, f_FAR, nI cap, f_depth, f_firstShortBits, f_firstLoadBits, f_shortBits, f_loadBits, nI c, f_size, f_literalRuns, f_assembled, a_lineOp, a_lineA, a_lineB, a_labels, a_addresses, a_via, a_cells, a_kinds, a_keys, a_data, a_stack, a_held, a_spot, a_state) (nI 9) v2 v3 := by
  have ec : (nI c).toNatClampNeg = c := nI_clamp (by omega)
  have vc : vp_in (nI c) 49 := vp_in_nI (by omega) (by decide)
  exact br_t ha (br_f (by decide) (br_t (by decide) (br_f (by decide) (br_f (by decide) (br_f (by decide) (br_f (by decide) (br_c (fun a0 => bad (fun z => z.1.1 a0)) (fun a0 => br_c (fun a7 => br_f (by decide) (br_f (by decide) (br_f (by decide) (br_t (by decide) (br_f (by decide) (br_c (fun b0 => bad (fun z => z.2.1 b0)) (fun b0 => br_c (fun b7 => pk_lt c cap (fun hc2 => ⟨vc, nm_r (e' := upd a_lineOp c (nI 9)) (by rw [ec]) (br_f (by decide) (⟨vc, nm_r (e' := upd a_lineA c v2) (by rw [ec]) (br_f (by decide) (⟨vc, nm_r (e' := upd a_lineB c v3) (by rw [ec]) (nm_r (nI_1 c) (ce_pX (good ⟨⟨a0, a7⟩, ⟨b0, b7⟩⟩ hc2)))⟩))⟩))⟩) (fun hc2 => full ⟨⟨a0, a7⟩, ⟨b0, b7⟩⟩ hc2)) (fun b7 => bad (fun z => b7 z.2.2))))))))) (fun a7 => bad (fun z => a7 z.1.2))))))))))
theorem ce_x10 {post : Int32 → SX → Prop} (hc : c ≤ 48) (hcap : cap ≤ 48) (ha : f_assembled = 0) (bad : ¬ ((¬ v2 < 0 ∧ v2 ≤ 7) ∧ (¬ v3 < 0 ∧ v3 ≤ 15)) → post (-1) (f_HALT, f_MOVE, f_ADD, f_SUB, f_MUL, f_LOAD, f_STORE, f_CONST, f_JUMP, f_BZ, f_BN, f_CALL, f_RET, f_POOL, f_VENEER, f_AROUND, f_LITERAL, f_DIRECT, f_WAITING, f_CELLS, f_JUMP_BITS, f_IMMEDIATE_BITS, f_FAR, nI cap, f_depth, f_firstShortBits, f_firstLoadBits, f_shortBits, f_loadBits, nI c, f_size, f_literalRuns, f_assembled, a_lineOp, a_lineA, a_lineB, a_labels, a_addresses, a_via, a_cells, a_kinds, a_keys, a_data, a_stack, a_held, a_spot, a_state)) (full : ((¬ v2 < 0 ∧ v2 ≤ 7) ∧ (¬ v3 < 0 ∧ v3 ≤ 15)) → cap ≤ c → post (-5) (f_HALT, f_MOVE, f_ADD, f_SUB, f_MUL, f_LOAD, f_STORE, f_CONST, f_JUMP, f_BZ, f_BN, f_CALL, f_RET, f_POOL, f_VENEER, f_AROUND, f_LITERAL, f_DIRECT, f_WAITING, f_CELLS, f_JUMP_BITS, f_IMMEDIATE_BITS, f_FAR, nI cap, f_depth, f_firstShortBits, f_firstLoadBits, f_shortBits, f_loadBits, nI c, f_size, f_literalRuns, f_assembled, a_lineOp, a_lineA, a_lineB, a_labels, a_addresses, a_via, a_cells, a_kinds, a_keys, a_data, a_stack, a_held, a_spot, a_state))
    (good : ((¬ v2 < 0 ∧ v2 ≤ 7) ∧ (¬ v3 < 0 ∧ v3 ≤ 15)) → c < cap → post (nI c) (f_HALT, f_MOVE, f_ADD, f_SUB, f_MUL, f_LOAD, f_STORE, f_CONST, f_JUMP, f_BZ, f_BN, f_CALL, f_RET, f_POOL, f_VENEER, f_AROUND, f_LITERAL, f_DIRECT, f_WAITING, f_CELLS, f_JUMP_BITS, f_IMMEDIATE_BITS, f_FAR, nI cap, f_depth, f_firstShortBits, f_firstLoadBits, f_shortBits, f_loadBits, nI (c + 1), f_size, f_literalRuns, f_assembled, upd a_lineOp c (nI 10), upd a_lineA c v2, upd a_lineB c v3, a_labels, a_addresses, a_via, a_cells, a_kinds, a_keys, a_data, a_stack, a_held, a_spot, a_state)) : wpX_emit post (f_HALT, f_MOVE, f_ADD, f_SUB, f_MUL, f_LOAD, f_STORE, f_CONST, f_JUMP, f_BZ, f_BN, f_CALL, f_RET, f_POOL, f_VENEER, f_AROUND, f_LITERAL, f_DIRECT, f_WAITING, f_CELLS, f_JUMP_BITS, f_IMMEDIATE_BITS, f_FAR, nI cap, f_depth, f_firstShortBits, f_firstLoadBits, f_shortBits, f_loadBits, nI c, f_size, f_literalRuns, f_assembled, a_lineOp, a_lineA, a_lineB, a_labels, a_addresses, a_via, a_cells, a_kinds, a_keys, a_data, a_stack, a_held, a_spot, a_state) (nI 10) v2 v3 := by
  have ec : (nI c).toNatClampNeg = c := nI_clamp (by omega)
  have vc : vp_in (nI c) 49 := vp_in_nI (by omega) (by decide)
  exact br_t ha (br_f (by decide) (br_t (by decide) (br_f (by decide) (br_f (by decide) (br_f (by decide) (br_f (by decide) (br_c (fun a0 => bad (fun z => z.1.1 a0)) (fun a0 => br_c (fun a7 => br_f (by decide) (br_f (by decide) (br_f (by decide) (br_t (by decide) (br_f (by decide) (br_c (fun b0 => bad (fun z => z.2.1 b0)) (fun b0 => br_c (fun b7 => pk_lt c cap (fun hc2 => ⟨vc, nm_r (e' := upd a_lineOp c (nI 10)) (by rw [ec]) (br_f (by decide) (⟨vc, nm_r (e' := upd a_lineA c v2) (by rw [ec]) (br_f (by decide) (⟨vc, nm_r (e' := upd a_lineB c v3) (by rw [ec]) (nm_r (nI_1 c) (ce_pX (good ⟨⟨a0, a7⟩, ⟨b0, b7⟩⟩ hc2)))⟩))⟩))⟩) (fun hc2 => full ⟨⟨a0, a7⟩, ⟨b0, b7⟩⟩ hc2)) (fun b7 => bad (fun z => b7 z.2.2))))))))) (fun a7 => bad (fun z => a7 z.1.2))))))))))
theorem ce_x11 {post : Int32 → SX → Prop} (hc : c ≤ 48) (hcap : cap ≤ 48) (ha : f_assembled = 0) (bad : ¬ (True ∧ (¬ v3 < 0 ∧ v3 ≤ 15)) → post (-1) (f_HALT, f_MOVE, f_ADD, f_SUB, f_MUL, f_LOAD, f_STORE, f_CONST, f_JUMP, f_BZ, f_BN, f_CALL, f_RET, f_POOL, f_VENEER, f_AROUND, f_LITERAL, f_DIRECT, f_WAITING, f_CELLS, f_JUMP_BITS, f_IMMEDIATE_BITS, f_FAR, nI cap, f_depth, f_firstShortBits, f_firstLoadBits, f_shortBits, f_loadBits, nI c, f_size, f_literalRuns, f_assembled, a_lineOp, a_lineA, a_lineB, a_labels, a_addresses, a_via, a_cells, a_kinds, a_keys, a_data, a_stack, a_held, a_spot, a_state)) (full : (True ∧ (¬ v3 < 0 ∧ v3 ≤ 15)) → cap ≤ c → post (-5) (f_HALT, f_MOVE, f_ADD, f_SUB, f_MUL, f_LOAD, f_STORE, f_CONST, f_JUMP, f_BZ, f_BN, f_CALL, f_RET, f_POOL, f_VENEER, f_AROUND, f_LITERAL, f_DIRECT, f_WAITING, f_CELLS, f_JUMP_BITS, f_IMMEDIATE_BITS, f_FAR, nI cap, f_depth, f_firstShortBits, f_firstLoadBits, f_shortBits, f_loadBits, nI c, f_size, f_literalRuns, f_assembled, a_lineOp, a_lineA, a_lineB, a_labels, a_addresses, a_via, a_cells, a_kinds, a_keys, a_data, a_stack, a_held, a_spot, a_state))
    (good : (True ∧ (¬ v3 < 0 ∧ v3 ≤ 15)) → c < cap → post (nI c) (f_HALT, f_MOVE, f_ADD, f_SUB, f_MUL, f_LOAD, f_STORE, f_CONST, f_JUMP, f_BZ, f_BN, f_CALL, f_RET, f_POOL, f_VENEER, f_AROUND, f_LITERAL, f_DIRECT, f_WAITING, f_CELLS, f_JUMP_BITS, f_IMMEDIATE_BITS, f_FAR, nI cap, f_depth, f_firstShortBits, f_firstLoadBits, f_shortBits, f_loadBits, nI (c + 1), f_size, f_literalRuns, f_assembled, upd a_lineOp c (nI 11), upd a_lineA c 0, upd a_lineB c v3, a_labels, a_addresses, a_via, a_cells, a_kinds, a_keys, a_data, a_stack, a_held, a_spot, a_state)) : wpX_emit post (f_HALT, f_MOVE, f_ADD, f_SUB, f_MUL, f_LOAD, f_STORE, f_CONST, f_JUMP, f_BZ, f_BN, f_CALL, f_RET, f_POOL, f_VENEER, f_AROUND, f_LITERAL, f_DIRECT, f_WAITING, f_CELLS, f_JUMP_BITS, f_IMMEDIATE_BITS, f_FAR, nI cap, f_depth, f_firstShortBits, f_firstLoadBits, f_shortBits, f_loadBits, nI c, f_size, f_literalRuns, f_assembled, a_lineOp, a_lineA, a_lineB, a_labels, a_addresses, a_via, a_cells, a_kinds, a_keys, a_data, a_stack, a_held, a_spot, a_state) (nI 11) v2 v3 := by
  have ec : (nI c).toNatClampNeg = c := nI_clamp (by omega)
  have vc : vp_in (nI c) 49 := vp_in_nI (by omega) (by decide)
  exact br_t ha (br_f (by decide) (br_t (by decide) (br_f (by decide) (br_f (by decide) (br_t (by decide) (br_t (by decide) (br_f (by decide) (br_f (by decide) (br_f (by decide) (br_t (by decide) (br_f (by decide) (br_c (fun b0 => bad (fun z => z.2.1 b0)) (fun b0 => br_c (fun b7 => pk_lt c cap (fun hc2 => ⟨vc, nm_r (e' := upd a_lineOp c (nI 11)) (by rw [ec]) (br_t (by decide) (⟨vc, nm_r (e' := upd a_lineA c 0) (by rw [ec]) (br_f (by decide) (⟨vc, nm_r (e' := upd a_lineB c v3) (by rw [ec]) (nm_r (nI_1 c) (ce_pX (good ⟨trivial, ⟨b0, b7⟩⟩ hc2)))⟩))⟩))⟩) (fun hc2 => full ⟨trivial, ⟨b0, b7⟩⟩ hc2)) (fun b7 => bad (fun z => b7 z.2.2)))))))))))))))
theorem ce_x12 {post : Int32 → SX → Prop} (hc : c ≤ 48) (hcap : cap ≤ 48) (ha : f_assembled = 0) (bad : ¬ (True ∧ True) → post (-1) (f_HALT, f_MOVE, f_ADD, f_SUB, f_MUL, f_LOAD, f_STORE, f_CONST, f_JUMP, f_BZ, f_BN, f_CALL, f_RET, f_POOL, f_VENEER, f_AROUND, f_LITERAL, f_DIRECT, f_WAITING, f_CELLS, f_JUMP_BITS, f_IMMEDIATE_BITS, f_FAR, nI cap, f_depth, f_firstShortBits, f_firstLoadBits, f_shortBits, f_loadBits, nI c, f_size, f_literalRuns, f_assembled, a_lineOp, a_lineA, a_lineB, a_labels, a_addresses, a_via, a_cells, a_kinds, a_keys, a_data, a_stack, a_held, a_spot, a_state)) (full : (True ∧ True) → cap ≤ c → post (-5) (f_HALT, f_MOVE, f_ADD, f_SUB, f_MUL, f_LOAD, f_STORE, f_CONST, f_JUMP, f_BZ, f_BN, f_CALL, f_RET, f_POOL, f_VENEER, f_AROUND, f_LITERAL, f_DIRECT, f_WAITING, f_CELLS, f_JUMP_BITS, f_IMMEDIATE_BITS, f_FAR, nI cap, f_depth, f_firstShortBits, f_firstLoadBits, f_shortBits, f_loadBits, nI c, f_size, f_literalRuns, f_assembled, a_lineOp, a_lineA, a_lineB, a_labels, a_addresses, a_via, a_cells, a_kinds, a_keys, a_data, a_stack, a_held, a_spot, a_state))
    (good : (True ∧ True) → c < cap → post (nI c) (f_HALT, f_MOVE, f_ADD, f_SUB, f_MUL, f_LOAD, f_STORE, f_CONST, f_JUMP, f_BZ, f_BN, f_CALL, f_RET, f_POOL, f_VENEER, f_AROUND, f_LITERAL, f_DIRECT, f_WAITING, f_CELLS, f_JUMP_BITS, f_IMMEDIATE_BITS, f_FAR, nI cap, f_depth, f_firstShortBits, f_firstLoadBits, f_shortBits, f_loadBits, nI (c + 1), f_size, f_literalRuns, f_assembled, upd a_lineOp c (nI 12), upd a_lineA c 0, upd a_lineB c 0, a_labels, a_addresses, a_via, a_cells, a_kinds, a_keys, a_data, a_stack, a_held, a_spot, a_state)) : wpX_emit post (f_HALT, f_MOVE, f_ADD, f_SUB, f_MUL, f_LOAD, f_STORE, f_CONST, f_JUMP, f_BZ, f_BN, f_CALL, f_RET, f_POOL, f_VENEER, f_AROUND, f_LITERAL, f_DIRECT, f_WAITING, f_CELLS, f_JUMP_BITS, f_IMMEDIATE_BITS, f_FAR, nI cap, f_depth, f_firstShortBits, f_firstLoadBits, f_shortBits, f_loadBits, nI c, f_size, f_literalRuns, f_assembled, a_lineOp, a_lineA, a_lineB, a_labels, a_addresses, a_via, a_cells, a_kinds, a_keys, a_data, a_stack, a_held, a_spot, a_state) (nI 12) v2 v3 := by
  have ec : (nI c).toNatClampNeg = c := nI_clamp (by omega)
  have vc : vp_in (nI c) 49 := vp_in_nI (by omega) (by decide)
  exact br_t ha (br_f (by decide) (br_t (by decide) (br_f (by decide) (br_f (by decide) (br_t (by decide) (br_t (by decide) (br_f (by decide) (br_f (by decide) (br_t (by decide) (br_t (by decide) (br_t (by decide) (pk_lt c cap (fun hc2 => ⟨vc, nm_r (e' := upd a_lineOp c (nI 12)) (by rw [ec]) (br_t (by decide) (⟨vc, nm_r (e' := upd a_lineA c 0) (by rw [ec]) (br_t (by decide) (br_f (by decide) (⟨vc, nm_r (e' := upd a_lineB c 0) (by rw [ec]) (nm_r (nI_1 c) (ce_pX (good ⟨trivial, trivial⟩ hc2)))⟩)))⟩))⟩) (fun hc2 => full ⟨trivial, trivial⟩ hc2)))))))))))))
end
section
variable {g_capacity g_depth g_assembled g_count : Int32} {b_ops b_as b_bs b_bound b_labelLine b_cells b_stack b_entries b_at b_state : Nat → Int32} {c cap : Nat} {v2 v3 : Int32}
theorem ce_y0 {post : Int32 → SY → Prop} (hc : c ≤ 48) (hcap : cap ≤ 48) (ha : g_assembled = 0) (bad : ¬ (True ∧ True) → post (-1) (nI cap, g_depth, g_assembled, nI c, b_ops, b_as, b_bs, b_bound, b_labelLine, b_cells, b_stack, b_entries, b_at, b_state)) (full : (True ∧ True) → cap ≤ c → post (-5) (nI cap, g_depth, g_assembled, nI c, b_ops, b_as, b_bs, b_bound, b_labelLine, b_cells, b_stack, b_entries, b_at, b_state))
    (good : (True ∧ True) → c < cap → post (nI c) (nI cap, g_depth, g_assembled, nI (c + 1), upd b_ops c (nI 0), upd b_as c 0, upd b_bs c 0, b_bound, b_labelLine, b_cells, b_stack, b_entries, b_at, b_state)) : wpY_emit post (nI cap, g_depth, g_assembled, nI c, b_ops, b_as, b_bs, b_bound, b_labelLine, b_cells, b_stack, b_entries, b_at, b_state) (nI 0) v2 v3 := by
  have ec : (nI c).toNatClampNeg = c := nI_clamp (by omega)
  have vc : c < cap → vp_in (nI c) 48 := fun h => vp_in_nI (by omega) (by decide)
  exact br_t ha (br_f (by decide) (br_t (by decide) (br_t (by decide) (br_f (by decide) (br_f (by decide) (br_t (by decide) (br_t (by decide) (br_t (by decide) (pk_lt c cap (fun hc2 => ⟨vc hc2, nm_r (e' := upd b_ops c (nI 0)) (by rw [ec]) (br_t (by decide) (⟨vc hc2, nm_r (e' := upd b_as c 0) (by rw [ec]) (br_t (by decide) (⟨vc hc2, nm_r (e' := upd b_bs c 0) (by rw [ec]) (nm_r (nI_1 c) (ce_pY (good ⟨trivial, trivial⟩ hc2)))⟩))⟩))⟩) (fun hc2 => full ⟨trivial, trivial⟩ hc2))))))))))
theorem ce_y1 {post : Int32 → SY → Prop} (hc : c ≤ 48) (hcap : cap ≤ 48) (ha : g_assembled = 0) (bad : ¬ ((¬ v2 < 0 ∧ v2 ≤ 7) ∧ (¬ v3 < 0 ∧ v3 ≤ 7)) → post (-1) (nI cap, g_depth, g_assembled, nI c, b_ops, b_as, b_bs, b_bound, b_labelLine, b_cells, b_stack, b_entries, b_at, b_state)) (full : ((¬ v2 < 0 ∧ v2 ≤ 7) ∧ (¬ v3 < 0 ∧ v3 ≤ 7)) → cap ≤ c → post (-5) (nI cap, g_depth, g_assembled, nI c, b_ops, b_as, b_bs, b_bound, b_labelLine, b_cells, b_stack, b_entries, b_at, b_state))
    (good : ((¬ v2 < 0 ∧ v2 ≤ 7) ∧ (¬ v3 < 0 ∧ v3 ≤ 7)) → c < cap → post (nI c) (nI cap, g_depth, g_assembled, nI (c + 1), upd b_ops c (nI 1), upd b_as c v2, upd b_bs c v3, b_bound, b_labelLine, b_cells, b_stack, b_entries, b_at, b_state)) : wpY_emit post (nI cap, g_depth, g_assembled, nI c, b_ops, b_as, b_bs, b_bound, b_labelLine, b_cells, b_stack, b_entries, b_at, b_state) (nI 1) v2 v3 := by
  have ec : (nI c).toNatClampNeg = c := nI_clamp (by omega)
  have vc : c < cap → vp_in (nI c) 48 := fun h => vp_in_nI (by omega) (by decide)
  exact br_t ha (br_f (by decide) (br_t (by decide) (br_f (by decide) (br_t (by decide) (br_f (by decide) (br_c (fun a0 => bad (fun z => z.1.1 a0)) (fun a0 => br_c (fun a7 => br_f (by decide) (br_f (by decide) (br_c (fun b0 => bad (fun z => z.2.1 b0)) (fun b0 => br_c (fun b7 => br_t (by decide) (pk_lt c cap (fun hc2 => ⟨vc hc2, nm_r (e' := upd b_ops c (nI 1)) (by rw [ec]) (br_f (by decide) (⟨vc hc2, nm_r (e' := upd b_as c v2) (by rw [ec]) (br_f (by decide) (br_f (by decide) (⟨vc hc2, nm_r (e' := upd b_bs c v3) (by rw [ec]) (nm_r (nI_1 c) (ce_pY (good ⟨⟨a0, a7⟩, ⟨b0, b7⟩⟩ hc2)))⟩)))⟩))⟩) (fun hc2 => full ⟨⟨a0, a7⟩, ⟨b0, b7⟩⟩ hc2))) (fun b7 => bad (fun z => b7 z.2.2)))))) (fun a7 => bad (fun z => a7 z.1.2)))))))))
theorem ce_y2 {post : Int32 → SY → Prop} (hc : c ≤ 48) (hcap : cap ≤ 48) (ha : g_assembled = 0) (bad : ¬ ((¬ v2 < 0 ∧ v2 ≤ 7) ∧ (¬ v3 < 0 ∧ v3 ≤ 7)) → post (-1) (nI cap, g_depth, g_assembled, nI c, b_ops, b_as, b_bs, b_bound, b_labelLine, b_cells, b_stack, b_entries, b_at, b_state)) (full : ((¬ v2 < 0 ∧ v2 ≤ 7) ∧ (¬ v3 < 0 ∧ v3 ≤ 7)) → cap ≤ c → post (-5) (nI cap, g_depth, g_assembled, nI c, b_ops, b_as, b_bs, b_bound, b_labelLine, b_cells, b_stack, b_entries, b_at, b_state))
    (good : ((¬ v2 < 0 ∧ v2 ≤ 7) ∧ (¬ v3 < 0 ∧ v3 ≤ 7)) → c < cap → post (nI c) (nI cap, g_depth, g_assembled, nI (c + 1), upd b_ops c (nI 2), upd b_as c v2, upd b_bs c v3, b_bound, b_labelLine, b_cells, b_stack, b_entries, b_at, b_state)) : wpY_emit post (nI cap, g_depth, g_assembled, nI c, b_ops, b_as, b_bs, b_bound, b_labelLine, b_cells, b_stack, b_entries, b_at, b_state) (nI 2) v2 v3 := by
  have ec : (nI c).toNatClampNeg = c := nI_clamp (by omega)
  have vc : c < cap → vp_in (nI c) 48 := fun h => vp_in_nI (by omega) (by decide)
  exact br_t ha (br_f (by decide) (br_t (by decide) (br_f (by decide) (br_t (by decide) (br_f (by decide) (br_c (fun a0 => bad (fun z => z.1.1 a0)) (fun a0 => br_c (fun a7 => br_f (by decide) (br_f (by decide) (br_c (fun b0 => bad (fun z => z.2.1 b0)) (fun b0 => br_c (fun b7 => br_t (by decide) (pk_lt c cap (fun hc2 => ⟨vc hc2, nm_r (e' := upd b_ops c (nI 2)) (by rw [ec]) (br_f (by decide) (⟨vc hc2, nm_r (e' := upd b_as c v2) (by rw [ec]) (br_f (by decide) (br_f (by decide) (⟨vc hc2, nm_r (e' := upd b_bs c v3) (by rw [ec]) (nm_r (nI_1 c) (ce_pY (good ⟨⟨a0, a7⟩, ⟨b0, b7⟩⟩ hc2)))⟩)))⟩))⟩) (fun hc2 => full ⟨⟨a0, a7⟩, ⟨b0, b7⟩⟩ hc2))) (fun b7 => bad (fun z => b7 z.2.2)))))) (fun a7 => bad (fun z => a7 z.1.2)))))))))
theorem ce_y3 {post : Int32 → SY → Prop} (hc : c ≤ 48) (hcap : cap ≤ 48) (ha : g_assembled = 0) (bad : ¬ ((¬ v2 < 0 ∧ v2 ≤ 7) ∧ (¬ v3 < 0 ∧ v3 ≤ 7)) → post (-1) (nI cap, g_depth, g_assembled, nI c, b_ops, b_as, b_bs, b_bound, b_labelLine, b_cells, b_stack, b_entries, b_at, b_state)) (full : ((¬ v2 < 0 ∧ v2 ≤ 7) ∧ (¬ v3 < 0 ∧ v3 ≤ 7)) → cap ≤ c → post (-5) (nI cap, g_depth, g_assembled, nI c, b_ops, b_as, b_bs, b_bound, b_labelLine, b_cells, b_stack, b_entries, b_at, b_state))
    (good : ((¬ v2 < 0 ∧ v2 ≤ 7) ∧ (¬ v3 < 0 ∧ v3 ≤ 7)) → c < cap → post (nI c) (nI cap, g_depth, g_assembled, nI (c + 1), upd b_ops c (nI 3), upd b_as c v2, upd b_bs c v3, b_bound, b_labelLine, b_cells, b_stack, b_entries, b_at, b_state)) : wpY_emit post (nI cap, g_depth, g_assembled, nI c, b_ops, b_as, b_bs, b_bound, b_labelLine, b_cells, b_stack, b_entries, b_at, b_state) (nI 3) v2 v3 := by
  have ec : (nI c).toNatClampNeg = c := nI_clamp (by omega)
  have vc : c < cap → vp_in (nI c) 48 := fun h => vp_in_nI (by omega) (by decide)
  exact br_t ha (br_f (by decide) (br_t (by decide) (br_f (by decide) (br_t (by decide) (br_f (by decide) (br_c (fun a0 => bad (fun z => z.1.1 a0)) (fun a0 => br_c (fun a7 => br_f (by decide) (br_f (by decide) (br_c (fun b0 => bad (fun z => z.2.1 b0)) (fun b0 => br_c (fun b7 => br_t (by decide) (pk_lt c cap (fun hc2 => ⟨vc hc2, nm_r (e' := upd b_ops c (nI 3)) (by rw [ec]) (br_f (by decide) (⟨vc hc2, nm_r (e' := upd b_as c v2) (by rw [ec]) (br_f (by decide) (br_f (by decide) (⟨vc hc2, nm_r (e' := upd b_bs c v3) (by rw [ec]) (nm_r (nI_1 c) (ce_pY (good ⟨⟨a0, a7⟩, ⟨b0, b7⟩⟩ hc2)))⟩)))⟩))⟩) (fun hc2 => full ⟨⟨a0, a7⟩, ⟨b0, b7⟩⟩ hc2))) (fun b7 => bad (fun z => b7 z.2.2)))))) (fun a7 => bad (fun z => a7 z.1.2)))))))))
theorem ce_y4 {post : Int32 → SY → Prop} (hc : c ≤ 48) (hcap : cap ≤ 48) (ha : g_assembled = 0) (bad : ¬ ((¬ v2 < 0 ∧ v2 ≤ 7) ∧ (¬ v3 < 0 ∧ v3 ≤ 7)) → post (-1) (nI cap, g_depth, g_assembled, nI c, b_ops, b_as, b_bs, b_bound, b_labelLine, b_cells, b_stack, b_entries, b_at, b_state)) (full : ((¬ v2 < 0 ∧ v2 ≤ 7) ∧ (¬ v3 < 0 ∧ v3 ≤ 7)) → cap ≤ c → post (-5) (nI cap, g_depth, g_assembled, nI c, b_ops, b_as, b_bs, b_bound, b_labelLine, b_cells, b_stack, b_entries, b_at, b_state))
    (good : ((¬ v2 < 0 ∧ v2 ≤ 7) ∧ (¬ v3 < 0 ∧ v3 ≤ 7)) → c < cap → post (nI c) (nI cap, g_depth, g_assembled, nI (c + 1), upd b_ops c (nI 4), upd b_as c v2, upd b_bs c v3, b_bound, b_labelLine, b_cells, b_stack, b_entries, b_at, b_state)) : wpY_emit post (nI cap, g_depth, g_assembled, nI c, b_ops, b_as, b_bs, b_bound, b_labelLine, b_cells, b_stack, b_entries, b_at, b_state) (nI 4) v2 v3 := by
  have ec : (nI c).toNatClampNeg = c := nI_clamp (by omega)
  have vc : c < cap → vp_in (nI c) 48 := fun h => vp_in_nI (by omega) (by decide)
  exact br_t ha (br_f (by decide) (br_t (by decide) (br_f (by decide) (br_t (by decide) (br_f (by decide) (br_c (fun a0 => bad (fun z => z.1.1 a0)) (fun a0 => br_c (fun a7 => br_f (by decide) (br_f (by decide) (br_c (fun b0 => bad (fun z => z.2.1 b0)) (fun b0 => br_c (fun b7 => br_t (by decide) (pk_lt c cap (fun hc2 => ⟨vc hc2, nm_r (e' := upd b_ops c (nI 4)) (by rw [ec]) (br_f (by decide) (⟨vc hc2, nm_r (e' := upd b_as c v2) (by rw [ec]) (br_f (by decide) (br_f (by decide) (⟨vc hc2, nm_r (e' := upd b_bs c v3) (by rw [ec]) (nm_r (nI_1 c) (ce_pY (good ⟨⟨a0, a7⟩, ⟨b0, b7⟩⟩ hc2)))⟩)))⟩))⟩) (fun hc2 => full ⟨⟨a0, a7⟩, ⟨b0, b7⟩⟩ hc2))) (fun b7 => bad (fun z => b7 z.2.2)))))) (fun a7 => bad (fun z => a7 z.1.2)))))))))
theorem ce_y5 {post : Int32 → SY → Prop} (hc : c ≤ 48) (hcap : cap ≤ 48) (ha : g_assembled = 0) (bad : ¬ ((¬ v2 < 0 ∧ v2 ≤ 7) ∧ (¬ v3 < 0 ∧ v3 ≤ 7)) → post (-1) (nI cap, g_depth, g_assembled, nI c, b_ops, b_as, b_bs, b_bound, b_labelLine, b_cells, b_stack, b_entries, b_at, b_state)) (full : ((¬ v2 < 0 ∧ v2 ≤ 7) ∧ (¬ v3 < 0 ∧ v3 ≤ 7)) → cap ≤ c → post (-5) (nI cap, g_depth, g_assembled, nI c, b_ops, b_as, b_bs, b_bound, b_labelLine, b_cells, b_stack, b_entries, b_at, b_state))
    (good : ((¬ v2 < 0 ∧ v2 ≤ 7) ∧ (¬ v3 < 0 ∧ v3 ≤ 7)) → c < cap → post (nI c) (nI cap, g_depth, g_assembled, nI (c + 1), upd b_ops c (nI 5), upd b_as c v2, upd b_bs c v3, b_bound, b_labelLine, b_cells, b_stack, b_entries, b_at, b_state)) : wpY_emit post (nI cap, g_depth, g_assembled, nI c, b_ops, b_as, b_bs, b_bound, b_labelLine, b_cells, b_stack, b_entries, b_at, b_state) (nI 5) v2 v3 := by
  have ec : (nI c).toNatClampNeg = c := nI_clamp (by omega)
  have vc : c < cap → vp_in (nI c) 48 := fun h => vp_in_nI (by omega) (by decide)
  exact br_t ha (br_f (by decide) (br_t (by decide) (br_f (by decide) (br_t (by decide) (br_f (by decide) (br_c (fun a0 => bad (fun z => z.1.1 a0)) (fun a0 => br_c (fun a7 => br_f (by decide) (br_f (by decide) (br_c (fun b0 => bad (fun z => z.2.1 b0)) (fun b0 => br_c (fun b7 => br_t (by decide) (pk_lt c cap (fun hc2 => ⟨vc hc2, nm_r (e' := upd b_ops c (nI 5)) (by rw [ec]) (br_f (by decide) (⟨vc hc2, nm_r (e' := upd b_as c v2) (by rw [ec]) (br_f (by decide) (br_f (by decide) (⟨vc hc2, nm_r (e' := upd b_bs c v3) (by rw [ec]) (nm_r (nI_1 c) (ce_pY (good ⟨⟨a0, a7⟩, ⟨b0, b7⟩⟩ hc2)))⟩)))⟩))⟩) (fun hc2 => full ⟨⟨a0, a7⟩, ⟨b0, b7⟩⟩ hc2))) (fun b7 => bad (fun z => b7 z.2.2)))))) (fun a7 => bad (fun z => a7 z.1.2)))))))))
theorem ce_y6 {post : Int32 → SY → Prop} (hc : c ≤ 48) (hcap : cap ≤ 48) (ha : g_assembled = 0) (bad : ¬ ((¬ v2 < 0 ∧ v2 ≤ 7) ∧ (¬ v3 < 0 ∧ v3 ≤ 7)) → post (-1) (nI cap, g_depth, g_assembled, nI c, b_ops, b_as, b_bs, b_bound, b_labelLine, b_cells, b_stack, b_entries, b_at, b_state)) (full : ((¬ v2 < 0 ∧ v2 ≤ 7) ∧ (¬ v3 < 0 ∧ v3 ≤ 7)) → cap ≤ c → post (-5) (nI cap, g_depth, g_assembled, nI c, b_ops, b_as, b_bs, b_bound, b_labelLine, b_cells, b_stack, b_entries, b_at, b_state))
    (good : ((¬ v2 < 0 ∧ v2 ≤ 7) ∧ (¬ v3 < 0 ∧ v3 ≤ 7)) → c < cap → post (nI c) (nI cap, g_depth, g_assembled, nI (c + 1), upd b_ops c (nI 6), upd b_as c v2, upd b_bs c v3, b_bound, b_labelLine, b_cells, b_stack, b_entries, b_at, b_state)) : wpY_emit post (nI cap, g_depth, g_assembled, nI c, b_ops, b_as, b_bs, b_bound, b_labelLine, b_cells, b_stack, b_entries, b_at, b_state) (nI 6) v2 v3 := by
  have ec : (nI c).toNatClampNeg = c := nI_clamp (by omega)
  have vc : c < cap → vp_in (nI c) 48 := fun h => vp_in_nI (by omega) (by decide)
  exact br_t ha (br_f (by decide) (br_t (by decide) (br_f (by decide) (br_t (by decide) (br_f (by decide) (br_c (fun a0 => bad (fun z => z.1.1 a0)) (fun a0 => br_c (fun a7 => br_f (by decide) (br_f (by decide) (br_c (fun b0 => bad (fun z => z.2.1 b0)) (fun b0 => br_c (fun b7 => br_t (by decide) (pk_lt c cap (fun hc2 => ⟨vc hc2, nm_r (e' := upd b_ops c (nI 6)) (by rw [ec]) (br_f (by decide) (⟨vc hc2, nm_r (e' := upd b_as c v2) (by rw [ec]) (br_f (by decide) (br_f (by decide) (⟨vc hc2, nm_r (e' := upd b_bs c v3) (by rw [ec]) (nm_r (nI_1 c) (ce_pY (good ⟨⟨a0, a7⟩, ⟨b0, b7⟩⟩ hc2)))⟩)))⟩))⟩) (fun hc2 => full ⟨⟨a0, a7⟩, ⟨b0, b7⟩⟩ hc2))) (fun b7 => bad (fun z => b7 z.2.2)))))) (fun a7 => bad (fun z => a7 z.1.2)))))))))
theorem ce_y7 {post : Int32 → SY → Prop} (hc : c ≤ 48) (hcap : cap ≤ 48) (ha : g_assembled = 0) (bad : ¬ ((¬ v2 < 0 ∧ v2 ≤ 7) ∧ True) → post (-1) (nI cap, g_depth, g_assembled, nI c, b_ops, b_as, b_bs, b_bound, b_labelLine, b_cells, b_stack, b_entries, b_at, b_state)) (full : ((¬ v2 < 0 ∧ v2 ≤ 7) ∧ True) → cap ≤ c → post (-5) (nI cap, g_depth, g_assembled, nI c, b_ops, b_as, b_bs, b_bound, b_labelLine, b_cells, b_stack, b_entries, b_at, b_state))
    (good : ((¬ v2 < 0 ∧ v2 ≤ 7) ∧ True) → c < cap → post (nI c) (nI cap, g_depth, g_assembled, nI (c + 1), upd b_ops c (nI 7), upd b_as c v2, upd b_bs c v3, b_bound, b_labelLine, b_cells, b_stack, b_entries, b_at, b_state)) : wpY_emit post (nI cap, g_depth, g_assembled, nI c, b_ops, b_as, b_bs, b_bound, b_labelLine, b_cells, b_stack, b_entries, b_at, b_state) (nI 7) v2 v3 := by
  have ec : (nI c).toNatClampNeg = c := nI_clamp (by omega)
  have vc : c < cap → vp_in (nI c) 48 := fun h => vp_in_nI (by omega) (by decide)
  exact br_t ha (br_f (by decide) (br_t (by decide) (br_f (by decide) (br_t (by decide) (br_f (by decide) (br_c (fun a0 => bad (fun z => z.1.1 a0)) (fun a0 => br_c (fun a7 => br_f (by decide) (br_t (by decide) (br_t (by decide) (pk_lt c cap (fun hc2 => ⟨vc hc2, nm_r (e' := upd b_ops c (nI 7)) (by rw [ec]) (br_f (by decide) (⟨vc hc2, nm_r (e' := upd b_as c v2) (by rw [ec]) (br_f (by decide) (br_f (by decide) (⟨vc hc2, nm_r (e' := upd b_bs c v3) (by rw [ec]) (nm_r (nI_1 c) (ce_pY (good ⟨⟨a0, a7⟩, trivial⟩ hc2)))⟩)))⟩))⟩) (fun hc2 => full ⟨⟨a0, a7⟩, trivial⟩ hc2))))) (fun a7 => bad (fun z => a7 z.1.2)))))))))
theorem ce_y8 {post : Int32 → SY → Prop} (hc : c ≤ 48) (hcap : cap ≤ 48) (ha : g_assembled = 0) (bad : ¬ (True ∧ (¬ v3 < 0 ∧ v3 ≤ 15)) → post (-1) (nI cap, g_depth, g_assembled, nI c, b_ops, b_as, b_bs, b_bound, b_labelLine, b_cells, b_stack, b_entries, b_at, b_state)) (full : (True ∧ (¬ v3 < 0 ∧ v3 ≤ 15)) → cap ≤ c → post (-5) (nI cap, g_depth, g_assembled, nI c, b_ops, b_as, b_bs, b_bound, b_labelLine, b_cells, b_stack, b_entries, b_at, b_state))
    (good : (True ∧ (¬ v3 < 0 ∧ v3 ≤ 15)) → c < cap → post (nI c) (nI cap, g_depth, g_assembled, nI (c + 1), upd b_ops c (nI 8), upd b_as c 0, upd b_bs c v3, b_bound, b_labelLine, b_cells, b_stack, b_entries, b_at, b_state)) : wpY_emit post (nI cap, g_depth, g_assembled, nI c, b_ops, b_as, b_bs, b_bound, b_labelLine, b_cells, b_stack, b_entries, b_at, b_state) (nI 8) v2 v3 := by
  have ec : (nI c).toNatClampNeg = c := nI_clamp (by omega)
  have vc : c < cap → vp_in (nI c) 48 := fun h => vp_in_nI (by omega) (by decide)
  exact br_t ha (br_f (by decide) (br_t (by decide) (br_f (by decide) (br_f (by decide) (br_f (by decide) (br_f (by decide) (br_t (by decide) (br_f (by decide) (br_t (by decide) (br_f (by decide) (br_f (by decide) (br_c (fun b0 => bad (fun z => z.2.1 b0)) (fun b0 => br_c (fun b7 => pk_lt c cap (fun hc2 => ⟨vc hc2, nm_r (e' := upd b_ops c (nI 8)) (by rw [ec]) (br_t (by decide) (⟨vc hc2, nm_r (e' := upd b_as c 0) (by rw [ec]) (br_f (by decide) (br_f (by decide) (⟨vc hc2, nm_r (e' := upd b_bs c v3) (by rw [ec]) (nm_r (nI_1 c) (ce_pY (good ⟨trivial, ⟨b0, b7⟩⟩ hc2)))⟩)))⟩))⟩) (fun hc2 => full ⟨trivial, ⟨b0, b7⟩⟩ hc2)) (fun b7 => bad (fun z => b7 z.2.2)))))))))))))))
theorem ce_y9 {post : Int32 → SY → Prop} (hc : c ≤ 48) (hcap : cap ≤ 48) (ha : g_assembled = 0) (bad : ¬ ((¬ v2 < 0 ∧ v2 ≤ 7) ∧ (¬ v3 < 0 ∧ v3 ≤ 15)) → post (-1) (nI cap, g_depth, g_assembled, nI c, b_ops, b_as, b_bs, b_bound, b_labelLine, b_cells, b_stack, b_entries, b_at, b_state)) (full : ((¬ v2 < 0 ∧ v2 ≤ 7) ∧ (¬ v3 < 0 ∧ v3 ≤ 15)) → cap ≤ c → post (-5) (nI cap, g_depth, g_assembled, nI c, b_ops, b_as, b_bs, b_bound, b_labelLine, b_cells, b_stack, b_entries, b_at, b_state))
    (good : ((¬ v2 < 0 ∧ v2 ≤ 7) ∧ (¬ v3 < 0 ∧ v3 ≤ 15)) → c < cap → post (nI c) (nI cap, g_depth, g_assembled, nI (c + 1), upd b_ops c (nI 9), upd b_as c v2, upd b_bs c v3, b_bound, b_labelLine, b_cells, b_stack, b_entries, b_at, b_state)) : wpY_emit post (nI cap, g_depth, g_assembled, nI c, b_ops, b_as, b_bs, b_bound, b_labelLine, b_cells, b_stack, b_entries, b_at, b_state) (nI 9) v2 v3 := by
  have ec : (nI c).toNatClampNeg = c := nI_clamp (by omega)
  have vc : c < cap → vp_in (nI c) 48 := fun h => vp_in_nI (by omega) (by decide)
  exact br_t ha (br_f (by decide) (br_t (by decide) (br_f (by decide) (br_f (by decide) (br_t (by decide) (br_f (by decide) (br_c (fun a0 => bad (fun z => z.1.1 a0)) (fun a0 => br_c (fun a7 => br_f (by decide) (br_t (by decide) (br_f (by decide) (br_f (by decide) (br_c (fun b0 => bad (fun z => z.2.1 b0)) (fun b0 => br_c (fun b7 => pk_lt c cap (fun hc2 => ⟨vc hc2, nm_r (e' := upd b_ops c (nI 9)) (by rw [ec]) (br_f (by decide) (⟨vc hc2, nm_r (e' := upd b_as c v2) (by rw [ec]) (br_f (by decide) (br_f (by decide) (⟨vc hc2, nm_r (e' := upd b_bs c v3) (by rw [ec]) (nm_r (nI_1 c) (ce_pY (good ⟨⟨a0, a7⟩, ⟨b0, b7⟩⟩ hc2)))⟩)))⟩))⟩) (fun hc2 => full ⟨⟨a0, a7⟩, ⟨b0, b7⟩⟩ hc2)) (fun b7 => bad (fun z => b7 z.2.2)))))))) (fun a7 => bad (fun z => a7 z.1.2))))))))))
theorem ce_y10 {post : Int32 → SY → Prop} (hc : c ≤ 48) (hcap : cap ≤ 48) (ha : g_assembled = 0) (bad : ¬ ((¬ v2 < 0 ∧ v2 ≤ 7) ∧ (¬ v3 < 0 ∧ v3 ≤ 15)) → post (-1) (nI cap, g_depth, g_assembled, nI c, b_ops, b_as, b_bs, b_bound, b_labelLine, b_cells, b_stack, b_entries, b_at, b_state)) (full : ((¬ v2 < 0 ∧ v2 ≤ 7) ∧ (¬ v3 < 0 ∧ v3 ≤ 15)) → cap ≤ c → post (-5) (nI cap, g_depth, g_assembled, nI c, b_ops, b_as, b_bs, b_bound, b_labelLine, b_cells, b_stack, b_entries, b_at, b_state))
    (good : ((¬ v2 < 0 ∧ v2 ≤ 7) ∧ (¬ v3 < 0 ∧ v3 ≤ 15)) → c < cap → post (nI c) (nI cap, g_depth, g_assembled, nI (c + 1), upd b_ops c (nI 10), upd b_as c v2, upd b_bs c v3, b_bound, b_labelLine, b_cells, b_stack, b_entries, b_at, b_state)) : wpY_emit post (nI cap, g_depth, g_assembled, nI c, b_ops, b_as, b_bs, b_bound, b_labelLine, b_cells, b_stack, b_entries, b_at, b_state) (nI 10) v2 v3 := by
  have ec : (nI c).toNatClampNeg = c := nI_clamp (by omega)
  have vc : c < cap → vp_in (nI c) 48 := fun h => vp_in_nI (by omega) (by decide)
  exact br_t ha (br_f (by decide) (br_t (by decide) (br_f (by decide) (br_f (by decide) (br_f (by decide) (br_t (by decide) (br_f (by decide) (br_c (fun a0 => bad (fun z => z.1.1 a0)) (fun a0 => br_c (fun a7 => br_f (by decide) (br_t (by decide) (br_f (by decide) (br_f (by decide) (br_c (fun b0 => bad (fun z => z.2.1 b0)) (fun b0 => br_c (fun b7 => pk_lt c cap (fun hc2 => ⟨vc hc2, nm_r (e' := upd b_ops c (nI 10)) (by rw [ec]) (br_f (by decide) (⟨vc hc2, nm_r (e' := upd b_as c v2) (by rw [ec]) (br_f (by decide) (br_f (by decide) (⟨vc hc2, nm_r (e' := upd b_bs c v3) (by rw [ec]) (nm_r (nI_1 c) (ce_pY (good ⟨⟨a0, a7⟩, ⟨b0, b7⟩⟩ hc2)))⟩)))⟩))⟩) (fun hc2 => full ⟨⟨a0, a7⟩, ⟨b0, b7⟩⟩ hc2)) (fun b7 => bad (fun z => b7 z.2.2)))))))) (fun a7 => bad (fun z => a7 z.1.2)))))))))))
theorem ce_y11 {post : Int32 → SY → Prop} (hc : c ≤ 48) (hcap : cap ≤ 48) (ha : g_assembled = 0) (bad : ¬ (True ∧ (¬ v3 < 0 ∧ v3 ≤ 15)) → post (-1) (nI cap, g_depth, g_assembled, nI c, b_ops, b_as, b_bs, b_bound, b_labelLine, b_cells, b_stack, b_entries, b_at, b_state)) (full : (True ∧ (¬ v3 < 0 ∧ v3 ≤ 15)) → cap ≤ c → post (-5) (nI cap, g_depth, g_assembled, nI c, b_ops, b_as, b_bs, b_bound, b_labelLine, b_cells, b_stack, b_entries, b_at, b_state))
    (good : (True ∧ (¬ v3 < 0 ∧ v3 ≤ 15)) → c < cap → post (nI c) (nI cap, g_depth, g_assembled, nI (c + 1), upd b_ops c (nI 11), upd b_as c 0, upd b_bs c v3, b_bound, b_labelLine, b_cells, b_stack, b_entries, b_at, b_state)) : wpY_emit post (nI cap, g_depth, g_assembled, nI c, b_ops, b_as, b_bs, b_bound, b_labelLine, b_cells, b_stack, b_entries, b_at, b_state) (nI 11) v2 v3 := by
  have ec : (nI c).toNatClampNeg = c := nI_clamp (by omega)
  have vc : c < cap → vp_in (nI c) 48 := fun h => vp_in_nI (by omega) (by decide)
  exact br_t ha (br_f (by decide) (br_t (by decide) (br_f (by decide) (br_f (by decide) (br_f (by decide) (br_f (by decide) (br_t (by decide) (br_f (by decide) (br_t (by decide) (br_f (by decide) (br_f (by decide) (br_c (fun b0 => bad (fun z => z.2.1 b0)) (fun b0 => br_c (fun b7 => pk_lt c cap (fun hc2 => ⟨vc hc2, nm_r (e' := upd b_ops c (nI 11)) (by rw [ec]) (br_t (by decide) (⟨vc hc2, nm_r (e' := upd b_as c 0) (by rw [ec]) (br_f (by decide) (br_f (by decide) (⟨vc hc2, nm_r (e' := upd b_bs c v3) (by rw [ec]) (nm_r (nI_1 c) (ce_pY (good ⟨trivial, ⟨b0, b7⟩⟩ hc2)))⟩)))⟩))⟩) (fun hc2 => full ⟨trivial, ⟨b0, b7⟩⟩ hc2)) (fun b7 => bad (fun z => b7 z.2.2)))))))))))))))
theorem ce_y12 {post : Int32 → SY → Prop} (hc : c ≤ 48) (hcap : cap ≤ 48) (ha : g_assembled = 0) (bad : ¬ (True ∧ True) → post (-1) (nI cap, g_depth, g_assembled, nI c, b_ops, b_as, b_bs, b_bound, b_labelLine, b_cells, b_stack, b_entries, b_at, b_state)) (full : (True ∧ True) → cap ≤ c → post (-5) (nI cap, g_depth, g_assembled, nI c, b_ops, b_as, b_bs, b_bound, b_labelLine, b_cells, b_stack, b_entries, b_at, b_state))
    (good : (True ∧ True) → c < cap → post (nI c) (nI cap, g_depth, g_assembled, nI (c + 1), upd b_ops c (nI 12), upd b_as c 0, upd b_bs c 0, b_bound, b_labelLine, b_cells, b_stack, b_entries, b_at, b_state)) : wpY_emit post (nI cap, g_depth, g_assembled, nI c, b_ops, b_as, b_bs, b_bound, b_labelLine, b_cells, b_stack, b_entries, b_at, b_state) (nI 12) v2 v3 := by
  have ec : (nI c).toNatClampNeg = c := nI_clamp (by omega)
  have vc : c < cap → vp_in (nI c) 48 := fun h => vp_in_nI (by omega) (by decide)
  exact br_t ha (br_f (by decide) (br_t (by decide) (br_f (by decide) (br_f (by decide) (br_f (by decide) (br_f (by decide) (br_t (by decide) (br_f (by decide) (br_t (by decide) (br_f (by decide) (br_t (by decide) (pk_lt c cap (fun hc2 => ⟨vc hc2, nm_r (e' := upd b_ops c (nI 12)) (by rw [ec]) (br_t (by decide) (⟨vc hc2, nm_r (e' := upd b_as c 0) (by rw [ec]) (br_f (by decide) (br_t (by decide) (⟨vc hc2, nm_r (e' := upd b_bs c 0) (by rw [ec]) (nm_r (nI_1 c) (ce_pY (good ⟨trivial, trivial⟩ hc2)))⟩)))⟩))⟩) (fun hc2 => full ⟨trivial, trivial⟩ hc2)))))))))))))
end
theorem ce_new {op A B lab ops as bs bound ll : Nat → Int32} {c cap dp fs fl sb lb : Nat} {o a b : Int32} (F1 : ci_F1 cap dp fs fl sb lb c) (F2 : ci_F2 op A B c) (F3 : ci_PY op A B lab ops as bs bound ll c) (hc : c < cap) (hL : ci_Ln o a b) :
    ci_F1 cap dp fs fl sb lb (c + 1) ∧ ci_F2 (upd op c o) (upd A c a) (upd B c b) (c + 1) ∧ ci_PY (upd op c o) (upd A c a) (upd B c b) lab (upd ops c o) (upd as c a) (upd bs c b) bound ll (c + 1) := by
  obtain ⟨f1, f2, f3⟩ := F1
  refine ⟨⟨by omega, f2, f3⟩, ⟨fun i hi => ?_, fun i h1 h2 => ?_⟩, fun i hi => ?_, fun k hk => ?_⟩
  · by_cases e : i = c
    · subst e; rw [pk_us, pk_us, pk_us]; exact hL
    · rw [pk_un e, pk_un e, pk_un e]; exact F2.1 i hi
  · rw [pk_un (by omega)]; exact F2.2 i (by omega) h2
  · by_cases e : i = c
    · subst e; rw [pk_us, pk_us, pk_us, pk_us, pk_us, pk_us]; exact ⟨rfl, rfl, rfl⟩
    · rw [pk_un e, pk_un e, pk_un e, pk_un e, pk_un e, pk_un e]; exact F3.1 i (by omega)
  · rcases F3.2 k hk with h | ⟨h1, h2, g, h3, h4⟩
    · exact Or.inl h
    · exact Or.inr ⟨h1, h2, g, by omega, h4⟩
theorem ce_r7 {x : Int32} (h : ¬ x < 0 ∧ x ≤ 7) : ∃ n, n < 8 ∧ x = nI n := by
  obtain ⟨n, hn, e⟩ := nI_of2 (M := 7) (n := 7) (by decide) h.1 h.2
  exact ⟨n, by omega, e⟩
theorem ce_r15 {x : Int32} (h : ¬ x < 0 ∧ x ≤ 15) : ∃ n, n < 16 ∧ x = nI n := by
  obtain ⟨n, hn, e⟩ := nI_of2 (M := 15) (n := 15) (by decide) h.1 h.2
  exact ⟨n, by omega, e⟩
theorem ce_ln0 {v2 v3 : Int32} (z : (True ∧ True)) : ci_Ln (nI 0) 0 0 := ⟨⟨0, by omega, rfl⟩, ⟨0, by omega, rfl⟩, fun _ _ => ⟨0, by omega, rfl⟩, fun t => absurd t (fun q => absurd q.1 (by decide))⟩
theorem ce_0 {k : Nat} {v2 v3 : Int32} {f_HALT f_MOVE f_ADD f_SUB f_MUL f_LOAD f_STORE f_CONST f_JUMP f_BZ f_BN f_CALL f_RET f_POOL f_VENEER f_AROUND f_LITERAL f_DIRECT f_WAITING f_CELLS f_JUMP_BITS f_IMMEDIATE_BITS f_FAR f_size f_literalRuns f_assembled : Int32} {a_lineOp a_lineA a_lineB a_labels a_addresses a_via a_cells a_kinds a_keys a_data a_stack a_held a_spot a_state : Nat → Int32} {b_ops b_as b_bs b_bound b_labelLine b_stack b_at : Nat → Int32} {cap dp fs fl sb lb c : Nat} (ha : f_assembled = 0) (F1 : ci_F1 cap dp fs fl sb lb c) (F2 : ci_F2 a_lineOp a_lineA a_lineB c) (F3 : ci_PY a_lineOp a_lineA a_lineB a_labels b_ops b_as b_bs b_bound b_labelLine c) : wpX_emit (fun r u' => wpY_emit (fun r' v' => r' = r ∧ i_Rel k u' v') (nI cap, nI dp, f_assembled, nI c, b_ops, b_as, b_bs, b_bound, b_labelLine, a_data, b_stack, a_held, b_at, a_state) (nI 0) v2 v3) (f_HALT, f_MOVE, f_ADD, f_SUB, f_MUL, f_LOAD, f_STORE, f_CONST, f_JUMP, f_BZ, f_BN, f_CALL, f_RET, f_POOL, f_VENEER, f_AROUND, f_LITERAL, f_DIRECT, f_WAITING, f_CELLS, f_JUMP_BITS, f_IMMEDIATE_BITS, f_FAR, nI cap, nI dp, nI fs, nI fl, nI sb, nI lb, nI c, f_size, f_literalRuns, f_assembled, a_lineOp, a_lineA, a_lineB, a_labels, a_addresses, a_via, a_cells, a_kinds, a_keys, a_data, a_stack, a_held, a_spot, a_state) (nI 0) v2 v3 := by
  have hc : c ≤ 48 := by have := F1.1; have := F1.2.1; omega
  have hcap := F1.2.1
  have E : i_Rel k (f_HALT, f_MOVE, f_ADD, f_SUB, f_MUL, f_LOAD, f_STORE, f_CONST, f_JUMP, f_BZ, f_BN, f_CALL, f_RET, f_POOL, f_VENEER, f_AROUND, f_LITERAL, f_DIRECT, f_WAITING, f_CELLS, f_JUMP_BITS, f_IMMEDIATE_BITS, f_FAR, nI cap, nI dp, nI fs, nI fl, nI sb, nI lb, nI c, f_size, f_literalRuns, f_assembled, a_lineOp, a_lineA, a_lineB, a_labels, a_addresses, a_via, a_cells, a_kinds, a_keys, a_data, a_stack, a_held, a_spot, a_state) (nI cap, nI dp, f_assembled, nI c, b_ops, b_as, b_bs, b_bound, b_labelLine, a_data, b_stack, a_held, b_at, a_state) := ci_mk F1 F2 F3 (fun z => absurd ha z)
  refine ce_x0 hc hcap ha (fun nb => ?_) (fun ok hf => ?_) (fun ok hf => ?_)
  · exact ce_y0 hc hcap ha (fun _ => ⟨rfl, E⟩) (fun ok => absurd ok nb) (fun ok => absurd ok nb)
  · exact ce_y0 hc hcap ha (fun nb => absurd ok nb) (fun _ _ => ⟨rfl, E⟩) (fun _ h => absurd h (by omega))
  · refine ce_y0 hc hcap ha (fun nb => absurd ok nb) (fun _ h => absurd h (by omega)) (fun _ _ => ⟨rfl, ?_⟩)
    obtain ⟨N1, N2, N3⟩ := ce_new F1 F2 F3 hf (ce_ln0 (v2 := v2) (v3 := v3) ok)
    exact ci_mk N1 N2 N3 (fun z => absurd ha z)
theorem ce_ln1 {v2 v3 : Int32} (z : ((¬ v2 < 0 ∧ v2 ≤ 7) ∧ (¬ v3 < 0 ∧ v3 ≤ 7))) : ci_Ln (nI 1) v2 v3 := ⟨⟨1, by omega, rfl⟩, ce_r7 z.1, fun _ _ => ce_r7 z.2, fun t => absurd t (fun q => absurd q.1 (by decide))⟩
theorem ce_1 {k : Nat} {v2 v3 : Int32} {f_HALT f_MOVE f_ADD f_SUB f_MUL f_LOAD f_STORE f_CONST f_JUMP f_BZ f_BN f_CALL f_RET f_POOL f_VENEER f_AROUND f_LITERAL f_DIRECT f_WAITING f_CELLS f_JUMP_BITS f_IMMEDIATE_BITS f_FAR f_size f_literalRuns f_assembled : Int32} {a_lineOp a_lineA a_lineB a_labels a_addresses a_via a_cells a_kinds a_keys a_data a_stack a_held a_spot a_state : Nat → Int32} {b_ops b_as b_bs b_bound b_labelLine b_stack b_at : Nat → Int32} {cap dp fs fl sb lb c : Nat} (ha : f_assembled = 0) (F1 : ci_F1 cap dp fs fl sb lb c) (F2 : ci_F2 a_lineOp a_lineA a_lineB c) (F3 : ci_PY a_lineOp a_lineA a_lineB a_labels b_ops b_as b_bs b_bound b_labelLine c) : wpX_emit (fun r u' => wpY_emit (fun r' v' => r' = r ∧ i_Rel k u' v') (nI cap, nI dp, f_assembled, nI c, b_ops, b_as, b_bs, b_bound, b_labelLine, a_data, b_stack, a_held, b_at, a_state) (nI 1) v2 v3) (f_HALT, f_MOVE, f_ADD, f_SUB, f_MUL, f_LOAD, f_STORE, f_CONST, f_JUMP, f_BZ, f_BN, f_CALL, f_RET, f_POOL, f_VENEER, f_AROUND, f_LITERAL, f_DIRECT, f_WAITING, f_CELLS, f_JUMP_BITS, f_IMMEDIATE_BITS, f_FAR, nI cap, nI dp, nI fs, nI fl, nI sb, nI lb, nI c, f_size, f_literalRuns, f_assembled, a_lineOp, a_lineA, a_lineB, a_labels, a_addresses, a_via, a_cells, a_kinds, a_keys, a_data, a_stack, a_held, a_spot, a_state) (nI 1) v2 v3 := by
  have hc : c ≤ 48 := by have := F1.1; have := F1.2.1; omega
  have hcap := F1.2.1
  have E : i_Rel k (f_HALT, f_MOVE, f_ADD, f_SUB, f_MUL, f_LOAD, f_STORE, f_CONST, f_JUMP, f_BZ, f_BN, f_CALL, f_RET, f_POOL, f_VENEER, f_AROUND, f_LITERAL, f_DIRECT, f_WAITING, f_CELLS, f_JUMP_BITS, f_IMMEDIATE_BITS, f_FAR, nI cap, nI dp, nI fs, nI fl, nI sb, nI lb, nI c, f_size, f_literalRuns, f_assembled, a_lineOp, a_lineA, a_lineB, a_labels, a_addresses, a_via, a_cells, a_kinds, a_keys, a_data, a_stack, a_held, a_spot, a_state) (nI cap, nI dp, f_assembled, nI c, b_ops, b_as, b_bs, b_bound, b_labelLine, a_data, b_stack, a_held, b_at, a_state) := ci_mk F1 F2 F3 (fun z => absurd ha z)
  refine ce_x1 hc hcap ha (fun nb => ?_) (fun ok hf => ?_) (fun ok hf => ?_)
  · exact ce_y1 hc hcap ha (fun _ => ⟨rfl, E⟩) (fun ok => absurd ok nb) (fun ok => absurd ok nb)
  · exact ce_y1 hc hcap ha (fun nb => absurd ok nb) (fun _ _ => ⟨rfl, E⟩) (fun _ h => absurd h (by omega))
  · refine ce_y1 hc hcap ha (fun nb => absurd ok nb) (fun _ h => absurd h (by omega)) (fun _ _ => ⟨rfl, ?_⟩)
    obtain ⟨N1, N2, N3⟩ := ce_new F1 F2 F3 hf (ce_ln1 (v2 := v2) (v3 := v3) ok)
    exact ci_mk N1 N2 N3 (fun z => absurd ha z)
theorem ce_ln2 {v2 v3 : Int32} (z : ((¬ v2 < 0 ∧ v2 ≤ 7) ∧ (¬ v3 < 0 ∧ v3 ≤ 7))) : ci_Ln (nI 2) v2 v3 := ⟨⟨2, by omega, rfl⟩, ce_r7 z.1, fun _ _ => ce_r7 z.2, fun t => absurd t (fun q => absurd q.1 (by decide))⟩
theorem ce_2 {k : Nat} {v2 v3 : Int32} {f_HALT f_MOVE f_ADD f_SUB f_MUL f_LOAD f_STORE f_CONST f_JUMP f_BZ f_BN f_CALL f_RET f_POOL f_VENEER f_AROUND f_LITERAL f_DIRECT f_WAITING f_CELLS f_JUMP_BITS f_IMMEDIATE_BITS f_FAR f_size f_literalRuns f_assembled : Int32} {a_lineOp a_lineA a_lineB a_labels a_addresses a_via a_cells a_kinds a_keys a_data a_stack a_held a_spot a_state : Nat → Int32} {b_ops b_as b_bs b_bound b_labelLine b_stack b_at : Nat → Int32} {cap dp fs fl sb lb c : Nat} (ha : f_assembled = 0) (F1 : ci_F1 cap dp fs fl sb lb c) (F2 : ci_F2 a_lineOp a_lineA a_lineB c) (F3 : ci_PY a_lineOp a_lineA a_lineB a_labels b_ops b_as b_bs b_bound b_labelLine c) : wpX_emit (fun r u' => wpY_emit (fun r' v' => r' = r ∧ i_Rel k u' v') (nI cap, nI dp, f_assembled, nI c, b_ops, b_as, b_bs, b_bound, b_labelLine, a_data, b_stack, a_held, b_at, a_state) (nI 2) v2 v3) (f_HALT, f_MOVE, f_ADD, f_SUB, f_MUL, f_LOAD, f_STORE, f_CONST, f_JUMP, f_BZ, f_BN, f_CALL, f_RET, f_POOL, f_VENEER, f_AROUND, f_LITERAL, f_DIRECT, f_WAITING, f_CELLS, f_JUMP_BITS, f_IMMEDIATE_BITS, f_FAR, nI cap, nI dp, nI fs, nI fl, nI sb, nI lb, nI c, f_size, f_literalRuns, f_assembled, a_lineOp, a_lineA, a_lineB, a_labels, a_addresses, a_via, a_cells, a_kinds, a_keys, a_data, a_stack, a_held, a_spot, a_state) (nI 2) v2 v3 := by
  have hc : c ≤ 48 := by have := F1.1; have := F1.2.1; omega
  have hcap := F1.2.1
  have E : i_Rel k (f_HALT, f_MOVE, f_ADD, f_SUB, f_MUL, f_LOAD, f_STORE, f_CONST, f_JUMP, f_BZ, f_BN, f_CALL, f_RET, f_POOL, f_VENEER, f_AROUND, f_LITERAL, f_DIRECT, f_WAITING, f_CELLS, f_JUMP_BITS, f_IMMEDIATE_BITS, f_FAR, nI cap, nI dp, nI fs, nI fl, nI sb, nI lb, nI c, f_size, f_literalRuns, f_assembled, a_lineOp, a_lineA, a_lineB, a_labels, a_addresses, a_via, a_cells, a_kinds, a_keys, a_data, a_stack, a_held, a_spot, a_state) (nI cap, nI dp, f_assembled, nI c, b_ops, b_as, b_bs, b_bound, b_labelLine, a_data, b_stack, a_held, b_at, a_state) := ci_mk F1 F2 F3 (fun z => absurd ha z)
  refine ce_x2 hc hcap ha (fun nb => ?_) (fun ok hf => ?_) (fun ok hf => ?_)
  · exact ce_y2 hc hcap ha (fun _ => ⟨rfl, E⟩) (fun ok => absurd ok nb) (fun ok => absurd ok nb)
  · exact ce_y2 hc hcap ha (fun nb => absurd ok nb) (fun _ _ => ⟨rfl, E⟩) (fun _ h => absurd h (by omega))
  · refine ce_y2 hc hcap ha (fun nb => absurd ok nb) (fun _ h => absurd h (by omega)) (fun _ _ => ⟨rfl, ?_⟩)
    obtain ⟨N1, N2, N3⟩ := ce_new F1 F2 F3 hf (ce_ln2 (v2 := v2) (v3 := v3) ok)
    exact ci_mk N1 N2 N3 (fun z => absurd ha z)
theorem ce_ln3 {v2 v3 : Int32} (z : ((¬ v2 < 0 ∧ v2 ≤ 7) ∧ (¬ v3 < 0 ∧ v3 ≤ 7))) : ci_Ln (nI 3) v2 v3 := ⟨⟨3, by omega, rfl⟩, ce_r7 z.1, fun _ _ => ce_r7 z.2, fun t => absurd t (fun q => absurd q.1 (by decide))⟩
theorem ce_3 {k : Nat} {v2 v3 : Int32} {f_HALT f_MOVE f_ADD f_SUB f_MUL f_LOAD f_STORE f_CONST f_JUMP f_BZ f_BN f_CALL f_RET f_POOL f_VENEER f_AROUND f_LITERAL f_DIRECT f_WAITING f_CELLS f_JUMP_BITS f_IMMEDIATE_BITS f_FAR f_size f_literalRuns f_assembled : Int32} {a_lineOp a_lineA a_lineB a_labels a_addresses a_via a_cells a_kinds a_keys a_data a_stack a_held a_spot a_state : Nat → Int32} {b_ops b_as b_bs b_bound b_labelLine b_stack b_at : Nat → Int32} {cap dp fs fl sb lb c : Nat} (ha : f_assembled = 0) (F1 : ci_F1 cap dp fs fl sb lb c) (F2 : ci_F2 a_lineOp a_lineA a_lineB c) (F3 : ci_PY a_lineOp a_lineA a_lineB a_labels b_ops b_as b_bs b_bound b_labelLine c) : wpX_emit (fun r u' => wpY_emit (fun r' v' => r' = r ∧ i_Rel k u' v') (nI cap, nI dp, f_assembled, nI c, b_ops, b_as, b_bs, b_bound, b_labelLine, a_data, b_stack, a_held, b_at, a_state) (nI 3) v2 v3) (f_HALT, f_MOVE, f_ADD, f_SUB, f_MUL, f_LOAD, f_STORE, f_CONST, f_JUMP, f_BZ, f_BN, f_CALL, f_RET, f_POOL, f_VENEER, f_AROUND, f_LITERAL, f_DIRECT, f_WAITING, f_CELLS, f_JUMP_BITS, f_IMMEDIATE_BITS, f_FAR, nI cap, nI dp, nI fs, nI fl, nI sb, nI lb, nI c, f_size, f_literalRuns, f_assembled, a_lineOp, a_lineA, a_lineB, a_labels, a_addresses, a_via, a_cells, a_kinds, a_keys, a_data, a_stack, a_held, a_spot, a_state) (nI 3) v2 v3 := by
  have hc : c ≤ 48 := by have := F1.1; have := F1.2.1; omega
  have hcap := F1.2.1
  have E : i_Rel k (f_HALT, f_MOVE, f_ADD, f_SUB, f_MUL, f_LOAD, f_STORE, f_CONST, f_JUMP, f_BZ, f_BN, f_CALL, f_RET, f_POOL, f_VENEER, f_AROUND, f_LITERAL, f_DIRECT, f_WAITING, f_CELLS, f_JUMP_BITS, f_IMMEDIATE_BITS, f_FAR, nI cap, nI dp, nI fs, nI fl, nI sb, nI lb, nI c, f_size, f_literalRuns, f_assembled, a_lineOp, a_lineA, a_lineB, a_labels, a_addresses, a_via, a_cells, a_kinds, a_keys, a_data, a_stack, a_held, a_spot, a_state) (nI cap, nI dp, f_assembled, nI c, b_ops, b_as, b_bs, b_bound, b_labelLine, a_data, b_stack, a_held, b_at, a_state) := ci_mk F1 F2 F3 (fun z => absurd ha z)
  refine ce_x3 hc hcap ha (fun nb => ?_) (fun ok hf => ?_) (fun ok hf => ?_)
  · exact ce_y3 hc hcap ha (fun _ => ⟨rfl, E⟩) (fun ok => absurd ok nb) (fun ok => absurd ok nb)
  · exact ce_y3 hc hcap ha (fun nb => absurd ok nb) (fun _ _ => ⟨rfl, E⟩) (fun _ h => absurd h (by omega))
  · refine ce_y3 hc hcap ha (fun nb => absurd ok nb) (fun _ h => absurd h (by omega)) (fun _ _ => ⟨rfl, ?_⟩)
    obtain ⟨N1, N2, N3⟩ := ce_new F1 F2 F3 hf (ce_ln3 (v2 := v2) (v3 := v3) ok)
    exact ci_mk N1 N2 N3 (fun z => absurd ha z)
theorem ce_ln4 {v2 v3 : Int32} (z : ((¬ v2 < 0 ∧ v2 ≤ 7) ∧ (¬ v3 < 0 ∧ v3 ≤ 7))) : ci_Ln (nI 4) v2 v3 := ⟨⟨4, by omega, rfl⟩, ce_r7 z.1, fun _ _ => ce_r7 z.2, fun t => absurd t (fun q => absurd q.1 (by decide))⟩
theorem ce_4 {k : Nat} {v2 v3 : Int32} {f_HALT f_MOVE f_ADD f_SUB f_MUL f_LOAD f_STORE f_CONST f_JUMP f_BZ f_BN f_CALL f_RET f_POOL f_VENEER f_AROUND f_LITERAL f_DIRECT f_WAITING f_CELLS f_JUMP_BITS f_IMMEDIATE_BITS f_FAR f_size f_literalRuns f_assembled : Int32} {a_lineOp a_lineA a_lineB a_labels a_addresses a_via a_cells a_kinds a_keys a_data a_stack a_held a_spot a_state : Nat → Int32} {b_ops b_as b_bs b_bound b_labelLine b_stack b_at : Nat → Int32} {cap dp fs fl sb lb c : Nat} (ha : f_assembled = 0) (F1 : ci_F1 cap dp fs fl sb lb c) (F2 : ci_F2 a_lineOp a_lineA a_lineB c) (F3 : ci_PY a_lineOp a_lineA a_lineB a_labels b_ops b_as b_bs b_bound b_labelLine c) : wpX_emit (fun r u' => wpY_emit (fun r' v' => r' = r ∧ i_Rel k u' v') (nI cap, nI dp, f_assembled, nI c, b_ops, b_as, b_bs, b_bound, b_labelLine, a_data, b_stack, a_held, b_at, a_state) (nI 4) v2 v3) (f_HALT, f_MOVE, f_ADD, f_SUB, f_MUL, f_LOAD, f_STORE, f_CONST, f_JUMP, f_BZ, f_BN, f_CALL, f_RET, f_POOL, f_VENEER, f_AROUND, f_LITERAL, f_DIRECT, f_WAITING, f_CELLS, f_JUMP_BITS, f_IMMEDIATE_BITS, f_FAR, nI cap, nI dp, nI fs, nI fl, nI sb, nI lb, nI c, f_size, f_literalRuns, f_assembled, a_lineOp, a_lineA, a_lineB, a_labels, a_addresses, a_via, a_cells, a_kinds, a_keys, a_data, a_stack, a_held, a_spot, a_state) (nI 4) v2 v3 := by
  have hc : c ≤ 48 := by have := F1.1; have := F1.2.1; omega
  have hcap := F1.2.1
  have E : i_Rel k (f_HALT, f_MOVE, f_ADD, f_SUB, f_MUL, f_LOAD, f_STORE, f_CONST, f_JUMP, f_BZ, f_BN, f_CALL, f_RET, f_POOL, f_VENEER, f_AROUND, f_LITERAL, f_DIRECT, f_WAITING, f_CELLS, f_JUMP_BITS, f_IMMEDIATE_BITS, f_FAR, nI cap, nI dp, nI fs, nI fl, nI sb, nI lb, nI c, f_size, f_literalRuns, f_assembled, a_lineOp, a_lineA, a_lineB, a_labels, a_addresses, a_via, a_cells, a_kinds, a_keys, a_data, a_stack, a_held, a_spot, a_state) (nI cap, nI dp, f_assembled, nI c, b_ops, b_as, b_bs, b_bound, b_labelLine, a_data, b_stack, a_held, b_at, a_state) := ci_mk F1 F2 F3 (fun z => absurd ha z)
  refine ce_x4 hc hcap ha (fun nb => ?_) (fun ok hf => ?_) (fun ok hf => ?_)
  · exact ce_y4 hc hcap ha (fun _ => ⟨rfl, E⟩) (fun ok => absurd ok nb) (fun ok => absurd ok nb)
  · exact ce_y4 hc hcap ha (fun nb => absurd ok nb) (fun _ _ => ⟨rfl, E⟩) (fun _ h => absurd h (by omega))
  · refine ce_y4 hc hcap ha (fun nb => absurd ok nb) (fun _ h => absurd h (by omega)) (fun _ _ => ⟨rfl, ?_⟩)
    obtain ⟨N1, N2, N3⟩ := ce_new F1 F2 F3 hf (ce_ln4 (v2 := v2) (v3 := v3) ok)
    exact ci_mk N1 N2 N3 (fun z => absurd ha z)
theorem ce_ln5 {v2 v3 : Int32} (z : ((¬ v2 < 0 ∧ v2 ≤ 7) ∧ (¬ v3 < 0 ∧ v3 ≤ 7))) : ci_Ln (nI 5) v2 v3 := ⟨⟨5, by omega, rfl⟩, ce_r7 z.1, fun _ _ => ce_r7 z.2, fun t => absurd t (fun q => absurd q.1 (by decide))⟩
theorem ce_5 {k : Nat} {v2 v3 : Int32} {f_HALT f_MOVE f_ADD f_SUB f_MUL f_LOAD f_STORE f_CONST f_JUMP f_BZ f_BN f_CALL f_RET f_POOL f_VENEER f_AROUND f_LITERAL f_DIRECT f_WAITING f_CELLS f_JUMP_BITS f_IMMEDIATE_BITS f_FAR f_size f_literalRuns f_assembled : Int32} {a_lineOp a_lineA a_lineB a_labels a_addresses a_via a_cells a_kinds a_keys a_data a_stack a_held a_spot a_state : Nat → Int32} {b_ops b_as b_bs b_bound b_labelLine b_stack b_at : Nat → Int32} {cap dp fs fl sb lb c : Nat} (ha : f_assembled = 0) (F1 : ci_F1 cap dp fs fl sb lb c) (F2 : ci_F2 a_lineOp a_lineA a_lineB c) (F3 : ci_PY a_lineOp a_lineA a_lineB a_labels b_ops b_as b_bs b_bound b_labelLine c) : wpX_emit (fun r u' => wpY_emit (fun r' v' => r' = r ∧ i_Rel k u' v') (nI cap, nI dp, f_assembled, nI c, b_ops, b_as, b_bs, b_bound, b_labelLine, a_data, b_stack, a_held, b_at, a_state) (nI 5) v2 v3) (f_HALT, f_MOVE, f_ADD, f_SUB, f_MUL, f_LOAD, f_STORE, f_CONST, f_JUMP, f_BZ, f_BN, f_CALL, f_RET, f_POOL, f_VENEER, f_AROUND, f_LITERAL, f_DIRECT, f_WAITING, f_CELLS, f_JUMP_BITS, f_IMMEDIATE_BITS, f_FAR, nI cap, nI dp, nI fs, nI fl, nI sb, nI lb, nI c, f_size, f_literalRuns, f_assembled, a_lineOp, a_lineA, a_lineB, a_labels, a_addresses, a_via, a_cells, a_kinds, a_keys, a_data, a_stack, a_held, a_spot, a_state) (nI 5) v2 v3 := by
  have hc : c ≤ 48 := by have := F1.1; have := F1.2.1; omega
  have hcap := F1.2.1
  have E : i_Rel k (f_HALT, f_MOVE, f_ADD, f_SUB, f_MUL, f_LOAD, f_STORE, f_CONST, f_JUMP, f_BZ, f_BN, f_CALL, f_RET, f_POOL, f_VENEER, f_AROUND, f_LITERAL, f_DIRECT, f_WAITING, f_CELLS, f_JUMP_BITS, f_IMMEDIATE_BITS, f_FAR, nI cap, nI dp, nI fs, nI fl, nI sb, nI lb, nI c, f_size, f_literalRuns, f_assembled, a_lineOp, a_lineA, a_lineB, a_labels, a_addresses, a_via, a_cells, a_kinds, a_keys, a_data, a_stack, a_held, a_spot, a_state) (nI cap, nI dp, f_assembled, nI c, b_ops, b_as, b_bs, b_bound, b_labelLine, a_data, b_stack, a_held, b_at, a_state) := ci_mk F1 F2 F3 (fun z => absurd ha z)
  refine ce_x5 hc hcap ha (fun nb => ?_) (fun ok hf => ?_) (fun ok hf => ?_)
  · exact ce_y5 hc hcap ha (fun _ => ⟨rfl, E⟩) (fun ok => absurd ok nb) (fun ok => absurd ok nb)
  · exact ce_y5 hc hcap ha (fun nb => absurd ok nb) (fun _ _ => ⟨rfl, E⟩) (fun _ h => absurd h (by omega))
  · refine ce_y5 hc hcap ha (fun nb => absurd ok nb) (fun _ h => absurd h (by omega)) (fun _ _ => ⟨rfl, ?_⟩)
    obtain ⟨N1, N2, N3⟩ := ce_new F1 F2 F3 hf (ce_ln5 (v2 := v2) (v3 := v3) ok)
    exact ci_mk N1 N2 N3 (fun z => absurd ha z)
theorem ce_ln6 {v2 v3 : Int32} (z : ((¬ v2 < 0 ∧ v2 ≤ 7) ∧ (¬ v3 < 0 ∧ v3 ≤ 7))) : ci_Ln (nI 6) v2 v3 := ⟨⟨6, by omega, rfl⟩, ce_r7 z.1, fun _ _ => ce_r7 z.2, fun t => absurd t (fun q => absurd q.1 (by decide))⟩
theorem ce_6 {k : Nat} {v2 v3 : Int32} {f_HALT f_MOVE f_ADD f_SUB f_MUL f_LOAD f_STORE f_CONST f_JUMP f_BZ f_BN f_CALL f_RET f_POOL f_VENEER f_AROUND f_LITERAL f_DIRECT f_WAITING f_CELLS f_JUMP_BITS f_IMMEDIATE_BITS f_FAR f_size f_literalRuns f_assembled : Int32} {a_lineOp a_lineA a_lineB a_labels a_addresses a_via a_cells a_kinds a_keys a_data a_stack a_held a_spot a_state : Nat → Int32} {b_ops b_as b_bs b_bound b_labelLine b_stack b_at : Nat → Int32} {cap dp fs fl sb lb c : Nat} (ha : f_assembled = 0) (F1 : ci_F1 cap dp fs fl sb lb c) (F2 : ci_F2 a_lineOp a_lineA a_lineB c) (F3 : ci_PY a_lineOp a_lineA a_lineB a_labels b_ops b_as b_bs b_bound b_labelLine c) : wpX_emit (fun r u' => wpY_emit (fun r' v' => r' = r ∧ i_Rel k u' v') (nI cap, nI dp, f_assembled, nI c, b_ops, b_as, b_bs, b_bound, b_labelLine, a_data, b_stack, a_held, b_at, a_state) (nI 6) v2 v3) (f_HALT, f_MOVE, f_ADD, f_SUB, f_MUL, f_LOAD, f_STORE, f_CONST, f_JUMP, f_BZ, f_BN, f_CALL, f_RET, f_POOL, f_VENEER, f_AROUND, f_LITERAL, f_DIRECT, f_WAITING, f_CELLS, f_JUMP_BITS, f_IMMEDIATE_BITS, f_FAR, nI cap, nI dp, nI fs, nI fl, nI sb, nI lb, nI c, f_size, f_literalRuns, f_assembled, a_lineOp, a_lineA, a_lineB, a_labels, a_addresses, a_via, a_cells, a_kinds, a_keys, a_data, a_stack, a_held, a_spot, a_state) (nI 6) v2 v3 := by
  have hc : c ≤ 48 := by have := F1.1; have := F1.2.1; omega
  have hcap := F1.2.1
  have E : i_Rel k (f_HALT, f_MOVE, f_ADD, f_SUB, f_MUL, f_LOAD, f_STORE, f_CONST, f_JUMP, f_BZ, f_BN, f_CALL, f_RET, f_POOL, f_VENEER, f_AROUND, f_LITERAL, f_DIRECT, f_WAITING, f_CELLS, f_JUMP_BITS, f_IMMEDIATE_BITS, f_FAR, nI cap, nI dp, nI fs, nI fl, nI sb, nI lb, nI c, f_size, f_literalRuns, f_assembled, a_lineOp, a_lineA, a_lineB, a_labels, a_addresses, a_via, a_cells, a_kinds, a_keys, a_data, a_stack, a_held, a_spot, a_state) (nI cap, nI dp, f_assembled, nI c, b_ops, b_as, b_bs, b_bound, b_labelLine, a_data, b_stack, a_held, b_at, a_state) := ci_mk F1 F2 F3 (fun z => absurd ha z)
  refine ce_x6 hc hcap ha (fun nb => ?_) (fun ok hf => ?_) (fun ok hf => ?_)
  · exact ce_y6 hc hcap ha (fun _ => ⟨rfl, E⟩) (fun ok => absurd ok nb) (fun ok => absurd ok nb)
  · exact ce_y6 hc hcap ha (fun nb => absurd ok nb) (fun _ _ => ⟨rfl, E⟩) (fun _ h => absurd h (by omega))
  · refine ce_y6 hc hcap ha (fun nb => absurd ok nb) (fun _ h => absurd h (by omega)) (fun _ _ => ⟨rfl, ?_⟩)
    obtain ⟨N1, N2, N3⟩ := ce_new F1 F2 F3 hf (ce_ln6 (v2 := v2) (v3 := v3) ok)
    exact ci_mk N1 N2 N3 (fun z => absurd ha z)
theorem ce_ln7 {v2 v3 : Int32} (z : ((¬ v2 < 0 ∧ v2 ≤ 7) ∧ True)) : ci_Ln (nI 7) v2 v3 := ⟨⟨7, by omega, rfl⟩, ce_r7 z.1, fun n => absurd rfl n, fun t => absurd t ci_nT7⟩
theorem ce_7 {k : Nat} {v2 v3 : Int32} {f_HALT f_MOVE f_ADD f_SUB f_MUL f_LOAD f_STORE f_CONST f_JUMP f_BZ f_BN f_CALL f_RET f_POOL f_VENEER f_AROUND f_LITERAL f_DIRECT f_WAITING f_CELLS f_JUMP_BITS f_IMMEDIATE_BITS f_FAR f_size f_literalRuns f_assembled : Int32} {a_lineOp a_lineA a_lineB a_labels a_addresses a_via a_cells a_kinds a_keys a_data a_stack a_held a_spot a_state : Nat → Int32} {b_ops b_as b_bs b_bound b_labelLine b_stack b_at : Nat → Int32} {cap dp fs fl sb lb c : Nat} (ha : f_assembled = 0) (F1 : ci_F1 cap dp fs fl sb lb c) (F2 : ci_F2 a_lineOp a_lineA a_lineB c) (F3 : ci_PY a_lineOp a_lineA a_lineB a_labels b_ops b_as b_bs b_bound b_labelLine c) : wpX_emit (fun r u' => wpY_emit (fun r' v' => r' = r ∧ i_Rel k u' v') (nI cap, nI dp, f_assembled, nI c, b_ops, b_as, b_bs, b_bound, b_labelLine, a_data, b_stack, a_held, b_at, a_state) (nI 7) v2 v3) (f_HALT, f_MOVE, f_ADD, f_SUB, f_MUL, f_LOAD, f_STORE, f_CONST, f_JUMP, f_BZ, f_BN, f_CALL, f_RET, f_POOL, f_VENEER, f_AROUND, f_LITERAL, f_DIRECT, f_WAITING, f_CELLS, f_JUMP_BITS, f_IMMEDIATE_BITS, f_FAR, nI cap, nI dp, nI fs, nI fl, nI sb, nI lb, nI c, f_size, f_literalRuns, f_assembled, a_lineOp, a_lineA, a_lineB, a_labels, a_addresses, a_via, a_cells, a_kinds, a_keys, a_data, a_stack, a_held, a_spot, a_state) (nI 7) v2 v3 := by
  have hc : c ≤ 48 := by have := F1.1; have := F1.2.1; omega
  have hcap := F1.2.1
  have E : i_Rel k (f_HALT, f_MOVE, f_ADD, f_SUB, f_MUL, f_LOAD, f_STORE, f_CONST, f_JUMP, f_BZ, f_BN, f_CALL, f_RET, f_POOL, f_VENEER, f_AROUND, f_LITERAL, f_DIRECT, f_WAITING, f_CELLS, f_JUMP_BITS, f_IMMEDIATE_BITS, f_FAR, nI cap, nI dp, nI fs, nI fl, nI sb, nI lb, nI c, f_size, f_literalRuns, f_assembled, a_lineOp, a_lineA, a_lineB, a_labels, a_addresses, a_via, a_cells, a_kinds, a_keys, a_data, a_stack, a_held, a_spot, a_state) (nI cap, nI dp, f_assembled, nI c, b_ops, b_as, b_bs, b_bound, b_labelLine, a_data, b_stack, a_held, b_at, a_state) := ci_mk F1 F2 F3 (fun z => absurd ha z)
  refine ce_x7 hc hcap ha (fun nb => ?_) (fun ok hf => ?_) (fun ok hf => ?_)
  · exact ce_y7 hc hcap ha (fun _ => ⟨rfl, E⟩) (fun ok => absurd ok nb) (fun ok => absurd ok nb)
  · exact ce_y7 hc hcap ha (fun nb => absurd ok nb) (fun _ _ => ⟨rfl, E⟩) (fun _ h => absurd h (by omega))
  · refine ce_y7 hc hcap ha (fun nb => absurd ok nb) (fun _ h => absurd h (by omega)) (fun _ _ => ⟨rfl, ?_⟩)
    obtain ⟨N1, N2, N3⟩ := ce_new F1 F2 F3 hf (ce_ln7 (v2 := v2) (v3 := v3) ok)
    exact ci_mk N1 N2 N3 (fun z => absurd ha z)
theorem ce_ln8 {v2 v3 : Int32} (z : (True ∧ (¬ v3 < 0 ∧ v3 ≤ 15))) : ci_Ln (nI 8) 0 v3 := ⟨⟨8, by omega, rfl⟩, ⟨0, by omega, rfl⟩, fun _ n => absurd ⟨by decide, by decide⟩ n, fun _ => ce_r15 z.2⟩
theorem ce_8 {k : Nat} {v2 v3 : Int32} {f_HALT f_MOVE f_ADD f_SUB f_MUL f_LOAD f_STORE f_CONST f_JUMP f_BZ f_BN f_CALL f_RET f_POOL f_VENEER f_AROUND f_LITERAL f_DIRECT f_WAITING f_CELLS f_JUMP_BITS f_IMMEDIATE_BITS f_FAR f_size f_literalRuns f_assembled : Int32} {a_lineOp a_lineA a_lineB a_labels a_addresses a_via a_cells a_kinds a_keys a_data a_stack a_held a_spot a_state : Nat → Int32} {b_ops b_as b_bs b_bound b_labelLine b_stack b_at : Nat → Int32} {cap dp fs fl sb lb c : Nat} (ha : f_assembled = 0) (F1 : ci_F1 cap dp fs fl sb lb c) (F2 : ci_F2 a_lineOp a_lineA a_lineB c) (F3 : ci_PY a_lineOp a_lineA a_lineB a_labels b_ops b_as b_bs b_bound b_labelLine c) : wpX_emit (fun r u' => wpY_emit (fun r' v' => r' = r ∧ i_Rel k u' v') (nI cap, nI dp, f_assembled, nI c, b_ops, b_as, b_bs, b_bound, b_labelLine, a_data, b_stack, a_held, b_at, a_state) (nI 8) v2 v3) (f_HALT, f_MOVE, f_ADD, f_SUB, f_MUL, f_LOAD, f_STORE, f_CONST, f_JUMP, f_BZ, f_BN, f_CALL, f_RET, f_POOL, f_VENEER, f_AROUND, f_LITERAL, f_DIRECT, f_WAITING, f_CELLS, f_JUMP_BITS, f_IMMEDIATE_BITS, f_FAR, nI cap, nI dp, nI fs, nI fl, nI sb, nI lb, nI c, f_size, f_literalRuns, f_assembled, a_lineOp, a_lineA, a_lineB, a_labels, a_addresses, a_via, a_cells, a_kinds, a_keys, a_data, a_stack, a_held, a_spot, a_state) (nI 8) v2 v3 := by
  have hc : c ≤ 48 := by have := F1.1; have := F1.2.1; omega
  have hcap := F1.2.1
  have E : i_Rel k (f_HALT, f_MOVE, f_ADD, f_SUB, f_MUL, f_LOAD, f_STORE, f_CONST, f_JUMP, f_BZ, f_BN, f_CALL, f_RET, f_POOL, f_VENEER, f_AROUND, f_LITERAL, f_DIRECT, f_WAITING, f_CELLS, f_JUMP_BITS, f_IMMEDIATE_BITS, f_FAR, nI cap, nI dp, nI fs, nI fl, nI sb, nI lb, nI c, f_size, f_literalRuns, f_assembled, a_lineOp, a_lineA, a_lineB, a_labels, a_addresses, a_via, a_cells, a_kinds, a_keys, a_data, a_stack, a_held, a_spot, a_state) (nI cap, nI dp, f_assembled, nI c, b_ops, b_as, b_bs, b_bound, b_labelLine, a_data, b_stack, a_held, b_at, a_state) := ci_mk F1 F2 F3 (fun z => absurd ha z)
  refine ce_x8 hc hcap ha (fun nb => ?_) (fun ok hf => ?_) (fun ok hf => ?_)
  · exact ce_y8 hc hcap ha (fun _ => ⟨rfl, E⟩) (fun ok => absurd ok nb) (fun ok => absurd ok nb)
  · exact ce_y8 hc hcap ha (fun nb => absurd ok nb) (fun _ _ => ⟨rfl, E⟩) (fun _ h => absurd h (by omega))
  · refine ce_y8 hc hcap ha (fun nb => absurd ok nb) (fun _ h => absurd h (by omega)) (fun _ _ => ⟨rfl, ?_⟩)
    obtain ⟨N1, N2, N3⟩ := ce_new F1 F2 F3 hf (ce_ln8 (v2 := v2) (v3 := v3) ok)
    exact ci_mk N1 N2 N3 (fun z => absurd ha z)
theorem ce_ln9 {v2 v3 : Int32} (z : ((¬ v2 < 0 ∧ v2 ≤ 7) ∧ (¬ v3 < 0 ∧ v3 ≤ 15))) : ci_Ln (nI 9) v2 v3 := ⟨⟨9, by omega, rfl⟩, ce_r7 z.1, fun _ n => absurd ⟨by decide, by decide⟩ n, fun _ => ce_r15 z.2⟩
theorem ce_9 {k : Nat} {v2 v3 : Int32} {f_HALT f_MOVE f_ADD f_SUB f_MUL f_LOAD f_STORE f_CONST f_JUMP f_BZ f_BN f_CALL f_RET f_POOL f_VENEER f_AROUND f_LITERAL f_DIRECT f_WAITING f_CELLS f_JUMP_BITS f_IMMEDIATE_BITS f_FAR f_size f_literalRuns f_assembled : Int32} {a_lineOp a_lineA a_lineB a_labels a_addresses a_via a_cells a_kinds a_keys a_data a_stack a_held a_spot a_state : Nat → Int32} {b_ops b_as b_bs b_bound b_labelLine b_stack b_at : Nat → Int32} {cap dp fs fl sb lb c : Nat} (ha : f_assembled = 0) (F1 : ci_F1 cap dp fs fl sb lb c) (F2 : ci_F2 a_lineOp a_lineA a_lineB c) (F3 : ci_PY a_lineOp a_lineA a_lineB a_labels b_ops b_as b_bs b_bound b_labelLine c) : wpX_emit (fun r u' => wpY_emit (fun r' v' => r' = r ∧ i_Rel k u' v') (nI cap, nI dp, f_assembled, nI c, b_ops, b_as, b_bs, b_bound, b_labelLine, a_data, b_stack, a_held, b_at, a_state) (nI 9) v2 v3) (f_HALT, f_MOVE, f_ADD, f_SUB, f_MUL, f_LOAD, f_STORE, f_CONST, f_JUMP, f_BZ, f_BN, f_CALL, f_RET, f_POOL, f_VENEER, f_AROUND, f_LITERAL, f_DIRECT, f_WAITING, f_CELLS, f_JUMP_BITS, f_IMMEDIATE_BITS, f_FAR, nI cap, nI dp, nI fs, nI fl, nI sb, nI lb, nI c, f_size, f_literalRuns, f_assembled, a_lineOp, a_lineA, a_lineB, a_labels, a_addresses, a_via, a_cells, a_kinds, a_keys, a_data, a_stack, a_held, a_spot, a_state) (nI 9) v2 v3 := by
  have hc : c ≤ 48 := by have := F1.1; have := F1.2.1; omega
  have hcap := F1.2.1
  have E : i_Rel k (f_HALT, f_MOVE, f_ADD, f_SUB, f_MUL, f_LOAD, f_STORE, f_CONST, f_JUMP, f_BZ, f_BN, f_CALL, f_RET, f_POOL, f_VENEER, f_AROUND, f_LITERAL, f_DIRECT, f_WAITING, f_CELLS, f_JUMP_BITS, f_IMMEDIATE_BITS, f_FAR, nI cap, nI dp, nI fs, nI fl, nI sb, nI lb, nI c, f_size, f_literalRuns, f_assembled, a_lineOp, a_lineA, a_lineB, a_labels, a_addresses, a_via, a_cells, a_kinds, a_keys, a_data, a_stack, a_held, a_spot, a_state) (nI cap, nI dp, f_assembled, nI c, b_ops, b_as, b_bs, b_bound, b_labelLine, a_data, b_stack, a_held, b_at, a_state) := ci_mk F1 F2 F3 (fun z => absurd ha z)
  refine ce_x9 hc hcap ha (fun nb => ?_) (fun ok hf => ?_) (fun ok hf => ?_)
  · exact ce_y9 hc hcap ha (fun _ => ⟨rfl, E⟩) (fun ok => absurd ok nb) (fun ok => absurd ok nb)
  · exact ce_y9 hc hcap ha (fun nb => absurd ok nb) (fun _ _ => ⟨rfl, E⟩) (fun _ h => absurd h (by omega))
  · refine ce_y9 hc hcap ha (fun nb => absurd ok nb) (fun _ h => absurd h (by omega)) (fun _ _ => ⟨rfl, ?_⟩)
    obtain ⟨N1, N2, N3⟩ := ce_new F1 F2 F3 hf (ce_ln9 (v2 := v2) (v3 := v3) ok)
    exact ci_mk N1 N2 N3 (fun z => absurd ha z)
theorem ce_ln10 {v2 v3 : Int32} (z : ((¬ v2 < 0 ∧ v2 ≤ 7) ∧ (¬ v3 < 0 ∧ v3 ≤ 15))) : ci_Ln (nI 10) v2 v3 := ⟨⟨10, by omega, rfl⟩, ce_r7 z.1, fun _ n => absurd ⟨by decide, by decide⟩ n, fun _ => ce_r15 z.2⟩
theorem ce_10 {k : Nat} {v2 v3 : Int32} {f_HALT f_MOVE f_ADD f_SUB f_MUL f_LOAD f_STORE f_CONST f_JUMP f_BZ f_BN f_CALL f_RET f_POOL f_VENEER f_AROUND f_LITERAL f_DIRECT f_WAITING f_CELLS f_JUMP_BITS f_IMMEDIATE_BITS f_FAR f_size f_literalRuns f_assembled : Int32} {a_lineOp a_lineA a_lineB a_labels a_addresses a_via a_cells a_kinds a_keys a_data a_stack a_held a_spot a_state : Nat → Int32} {b_ops b_as b_bs b_bound b_labelLine b_stack b_at : Nat → Int32} {cap dp fs fl sb lb c : Nat} (ha : f_assembled = 0) (F1 : ci_F1 cap dp fs fl sb lb c) (F2 : ci_F2 a_lineOp a_lineA a_lineB c) (F3 : ci_PY a_lineOp a_lineA a_lineB a_labels b_ops b_as b_bs b_bound b_labelLine c) : wpX_emit (fun r u' => wpY_emit (fun r' v' => r' = r ∧ i_Rel k u' v') (nI cap, nI dp, f_assembled, nI c, b_ops, b_as, b_bs, b_bound, b_labelLine, a_data, b_stack, a_held, b_at, a_state) (nI 10) v2 v3) (f_HALT, f_MOVE, f_ADD, f_SUB, f_MUL, f_LOAD, f_STORE, f_CONST, f_JUMP, f_BZ, f_BN, f_CALL, f_RET, f_POOL, f_VENEER, f_AROUND, f_LITERAL, f_DIRECT, f_WAITING, f_CELLS, f_JUMP_BITS, f_IMMEDIATE_BITS, f_FAR, nI cap, nI dp, nI fs, nI fl, nI sb, nI lb, nI c, f_size, f_literalRuns, f_assembled, a_lineOp, a_lineA, a_lineB, a_labels, a_addresses, a_via, a_cells, a_kinds, a_keys, a_data, a_stack, a_held, a_spot, a_state) (nI 10) v2 v3 := by
  have hc : c ≤ 48 := by have := F1.1; have := F1.2.1; omega
  have hcap := F1.2.1
  have E : i_Rel k (f_HALT, f_MOVE, f_ADD, f_SUB, f_MUL, f_LOAD, f_STORE, f_CONST, f_JUMP, f_BZ, f_BN, f_CALL, f_RET, f_POOL, f_VENEER, f_AROUND, f_LITERAL, f_DIRECT, f_WAITING, f_CELLS, f_JUMP_BITS, f_IMMEDIATE_BITS, f_FAR, nI cap, nI dp, nI fs, nI fl, nI sb, nI lb, nI c, f_size, f_literalRuns, f_assembled, a_lineOp, a_lineA, a_lineB, a_labels, a_addresses, a_via, a_cells, a_kinds, a_keys, a_data, a_stack, a_held, a_spot, a_state) (nI cap, nI dp, f_assembled, nI c, b_ops, b_as, b_bs, b_bound, b_labelLine, a_data, b_stack, a_held, b_at, a_state) := ci_mk F1 F2 F3 (fun z => absurd ha z)
  refine ce_x10 hc hcap ha (fun nb => ?_) (fun ok hf => ?_) (fun ok hf => ?_)
  · exact ce_y10 hc hcap ha (fun _ => ⟨rfl, E⟩) (fun ok => absurd ok nb) (fun ok => absurd ok nb)
  · exact ce_y10 hc hcap ha (fun nb => absurd ok nb) (fun _ _ => ⟨rfl, E⟩) (fun _ h => absurd h (by omega))
  · refine ce_y10 hc hcap ha (fun nb => absurd ok nb) (fun _ h => absurd h (by omega)) (fun _ _ => ⟨rfl, ?_⟩)
    obtain ⟨N1, N2, N3⟩ := ce_new F1 F2 F3 hf (ce_ln10 (v2 := v2) (v3 := v3) ok)
    exact ci_mk N1 N2 N3 (fun z => absurd ha z)
theorem ce_ln11 {v2 v3 : Int32} (z : (True ∧ (¬ v3 < 0 ∧ v3 ≤ 15))) : ci_Ln (nI 11) 0 v3 := ⟨⟨11, by omega, rfl⟩, ⟨0, by omega, rfl⟩, fun _ n => absurd ⟨by decide, by decide⟩ n, fun _ => ce_r15 z.2⟩
theorem ce_11 {k : Nat} {v2 v3 : Int32} {f_HALT f_MOVE f_ADD f_SUB f_MUL f_LOAD f_STORE f_CONST f_JUMP f_BZ f_BN f_CALL f_RET f_POOL f_VENEER f_AROUND f_LITERAL f_DIRECT f_WAITING f_CELLS f_JUMP_BITS f_IMMEDIATE_BITS f_FAR f_size f_literalRuns f_assembled : Int32} {a_lineOp a_lineA a_lineB a_labels a_addresses a_via a_cells a_kinds a_keys a_data a_stack a_held a_spot a_state : Nat → Int32} {b_ops b_as b_bs b_bound b_labelLine b_stack b_at : Nat → Int32} {cap dp fs fl sb lb c : Nat} (ha : f_assembled = 0) (F1 : ci_F1 cap dp fs fl sb lb c) (F2 : ci_F2 a_lineOp a_lineA a_lineB c) (F3 : ci_PY a_lineOp a_lineA a_lineB a_labels b_ops b_as b_bs b_bound b_labelLine c) : wpX_emit (fun r u' => wpY_emit (fun r' v' => r' = r ∧ i_Rel k u' v') (nI cap, nI dp, f_assembled, nI c, b_ops, b_as, b_bs, b_bound, b_labelLine, a_data, b_stack, a_held, b_at, a_state) (nI 11) v2 v3) (f_HALT, f_MOVE, f_ADD, f_SUB, f_MUL, f_LOAD, f_STORE, f_CONST, f_JUMP, f_BZ, f_BN, f_CALL, f_RET, f_POOL, f_VENEER, f_AROUND, f_LITERAL, f_DIRECT, f_WAITING, f_CELLS, f_JUMP_BITS, f_IMMEDIATE_BITS, f_FAR, nI cap, nI dp, nI fs, nI fl, nI sb, nI lb, nI c, f_size, f_literalRuns, f_assembled, a_lineOp, a_lineA, a_lineB, a_labels, a_addresses, a_via, a_cells, a_kinds, a_keys, a_data, a_stack, a_held, a_spot, a_state) (nI 11) v2 v3 := by
  have hc : c ≤ 48 := by have := F1.1; have := F1.2.1; omega
  have hcap := F1.2.1
  have E : i_Rel k (f_HALT, f_MOVE, f_ADD, f_SUB, f_MUL, f_LOAD, f_STORE, f_CONST, f_JUMP, f_BZ, f_BN, f_CALL, f_RET, f_POOL, f_VENEER, f_AROUND, f_LITERAL, f_DIRECT, f_WAITING, f_CELLS, f_JUMP_BITS, f_IMMEDIATE_BITS, f_FAR, nI cap, nI dp, nI fs, nI fl, nI sb, nI lb, nI c, f_size, f_literalRuns, f_assembled, a_lineOp, a_lineA, a_lineB, a_labels, a_addresses, a_via, a_cells, a_kinds, a_keys, a_data, a_stack, a_held, a_spot, a_state) (nI cap, nI dp, f_assembled, nI c, b_ops, b_as, b_bs, b_bound, b_labelLine, a_data, b_stack, a_held, b_at, a_state) := ci_mk F1 F2 F3 (fun z => absurd ha z)
  refine ce_x11 hc hcap ha (fun nb => ?_) (fun ok hf => ?_) (fun ok hf => ?_)
  · exact ce_y11 hc hcap ha (fun _ => ⟨rfl, E⟩) (fun ok => absurd ok nb) (fun ok => absurd ok nb)
  · exact ce_y11 hc hcap ha (fun nb => absurd ok nb) (fun _ _ => ⟨rfl, E⟩) (fun _ h => absurd h (by omega))
  · refine ce_y11 hc hcap ha (fun nb => absurd ok nb) (fun _ h => absurd h (by omega)) (fun _ _ => ⟨rfl, ?_⟩)
    obtain ⟨N1, N2, N3⟩ := ce_new F1 F2 F3 hf (ce_ln11 (v2 := v2) (v3 := v3) ok)
    exact ci_mk N1 N2 N3 (fun z => absurd ha z)
theorem ce_ln12 {v2 v3 : Int32} (z : (True ∧ True)) : ci_Ln (nI 12) 0 0 := ⟨⟨12, by omega, rfl⟩, ⟨0, by omega, rfl⟩, fun _ _ => ⟨0, by omega, rfl⟩, fun t => absurd t (fun q => absurd q.2 (by decide))⟩
theorem ce_12 {k : Nat} {v2 v3 : Int32} {f_HALT f_MOVE f_ADD f_SUB f_MUL f_LOAD f_STORE f_CONST f_JUMP f_BZ f_BN f_CALL f_RET f_POOL f_VENEER f_AROUND f_LITERAL f_DIRECT f_WAITING f_CELLS f_JUMP_BITS f_IMMEDIATE_BITS f_FAR f_size f_literalRuns f_assembled : Int32} {a_lineOp a_lineA a_lineB a_labels a_addresses a_via a_cells a_kinds a_keys a_data a_stack a_held a_spot a_state : Nat → Int32} {b_ops b_as b_bs b_bound b_labelLine b_stack b_at : Nat → Int32} {cap dp fs fl sb lb c : Nat} (ha : f_assembled = 0) (F1 : ci_F1 cap dp fs fl sb lb c) (F2 : ci_F2 a_lineOp a_lineA a_lineB c) (F3 : ci_PY a_lineOp a_lineA a_lineB a_labels b_ops b_as b_bs b_bound b_labelLine c) : wpX_emit (fun r u' => wpY_emit (fun r' v' => r' = r ∧ i_Rel k u' v') (nI cap, nI dp, f_assembled, nI c, b_ops, b_as, b_bs, b_bound, b_labelLine, a_data, b_stack, a_held, b_at, a_state) (nI 12) v2 v3) (f_HALT, f_MOVE, f_ADD, f_SUB, f_MUL, f_LOAD, f_STORE, f_CONST, f_JUMP, f_BZ, f_BN, f_CALL, f_RET, f_POOL, f_VENEER, f_AROUND, f_LITERAL, f_DIRECT, f_WAITING, f_CELLS, f_JUMP_BITS, f_IMMEDIATE_BITS, f_FAR, nI cap, nI dp, nI fs, nI fl, nI sb, nI lb, nI c, f_size, f_literalRuns, f_assembled, a_lineOp, a_lineA, a_lineB, a_labels, a_addresses, a_via, a_cells, a_kinds, a_keys, a_data, a_stack, a_held, a_spot, a_state) (nI 12) v2 v3 := by
  have hc : c ≤ 48 := by have := F1.1; have := F1.2.1; omega
  have hcap := F1.2.1
  have E : i_Rel k (f_HALT, f_MOVE, f_ADD, f_SUB, f_MUL, f_LOAD, f_STORE, f_CONST, f_JUMP, f_BZ, f_BN, f_CALL, f_RET, f_POOL, f_VENEER, f_AROUND, f_LITERAL, f_DIRECT, f_WAITING, f_CELLS, f_JUMP_BITS, f_IMMEDIATE_BITS, f_FAR, nI cap, nI dp, nI fs, nI fl, nI sb, nI lb, nI c, f_size, f_literalRuns, f_assembled, a_lineOp, a_lineA, a_lineB, a_labels, a_addresses, a_via, a_cells, a_kinds, a_keys, a_data, a_stack, a_held, a_spot, a_state) (nI cap, nI dp, f_assembled, nI c, b_ops, b_as, b_bs, b_bound, b_labelLine, a_data, b_stack, a_held, b_at, a_state) := ci_mk F1 F2 F3 (fun z => absurd ha z)
  refine ce_x12 hc hcap ha (fun nb => ?_) (fun ok hf => ?_) (fun ok hf => ?_)
  · exact ce_y12 hc hcap ha (fun _ => ⟨rfl, E⟩) (fun ok => absurd ok nb) (fun ok => absurd ok nb)
  · exact ce_y12 hc hcap ha (fun nb => absurd ok nb) (fun _ _ => ⟨rfl, E⟩) (fun _ h => absurd h (by omega))
  · refine ce_y12 hc hcap ha (fun nb => absurd ok nb) (fun _ h => absurd h (by omega)) (fun _ _ => ⟨rfl, ?_⟩)
    obtain ⟨N1, N2, N3⟩ := ce_new F1 F2 F3 hf (ce_ln12 (v2 := v2) (v3 := v3) ok)
    exact ci_mk N1 N2 N3 (fun z => absurd ha z)
theorem i_vc_emit {k : Nat} {u : SX} {v : SY} (I : i_Rel k u v) (hk : k + 4 ≤ 2052) (v1 : Int32) (v2 : Int32) (v3 : Int32) : wpX_emit (fun r u' => wpY_emit (fun r' v' => r' = r ∧ i_Rel (k + 4) u' v') v v1 v2 v3) u v1 v2 v3 := by
  refine ci_el (P := fun u v => wpX_emit (fun r u' => wpY_emit (fun r' v' => r' = r ∧ i_Rel (k + 4) u' v') v v1 v2 v3) u v1 v2 v3) I ?_
  intro f_HALT f_MOVE f_ADD f_SUB f_MUL f_LOAD f_STORE f_CONST f_JUMP f_BZ f_BN f_CALL f_RET f_POOL f_VENEER f_AROUND f_LITERAL f_DIRECT f_WAITING f_CELLS f_JUMP_BITS f_IMMEDIATE_BITS f_FAR f_size f_literalRuns f_assembled a_lineOp a_lineA a_lineB a_labels a_addresses a_via a_cells a_kinds a_keys a_data a_stack a_held a_spot a_state b_ops b_as b_bs b_bound b_labelLine b_stack b_at cap dp fs fl sb lb c F1 F2 F3 F4
  by_cases ha : f_assembled = 0
  · by_cases h0 : v1 < 0
    · exact br_t ha (br_t h0 (br_t ha (br_t h0 ⟨rfl, ci_mk F1 F2 F3 F4⟩)))
    · by_cases h12 : v1 ≤ 12
      · obtain ⟨o, ho, rfl⟩ := nI_of2 (M := 12) (n := 12) (by decide) h0 h12
        have hh : o = 0 ∨ o = 1 ∨ o = 2 ∨ o = 3 ∨ o = 4 ∨ o = 5 ∨ o = 6 ∨ o = 7 ∨ o = 8 ∨ o = 9 ∨ o = 10 ∨ o = 11 ∨ o = 12 := by omega
        rcases hh with rfl | rfl | rfl | rfl | rfl | rfl | rfl | rfl | rfl | rfl | rfl | rfl | rfl
        · exact ce_0 ha F1 F2 F3
        · exact ce_1 ha F1 F2 F3
        · exact ce_2 ha F1 F2 F3
        · exact ce_3 ha F1 F2 F3
        · exact ce_4 ha F1 F2 F3
        · exact ce_5 ha F1 F2 F3
        · exact ce_6 ha F1 F2 F3
        · exact ce_7 ha F1 F2 F3
        · exact ce_8 ha F1 F2 F3
        · exact ce_9 ha F1 F2 F3
        · exact ce_10 ha F1 F2 F3
        · exact ce_11 ha F1 F2 F3
        · exact ce_12 ha F1 F2 F3
      · exact br_t ha (br_f h0 (br_f h12 (br_t ha (br_f h0 (br_f h12 ⟨rfl, ci_mk F1 F2 F3 F4⟩)))))
  · exact br_f ha (br_f ha ⟨rfl, ci_mk F1 F2 F3 F4⟩)
end
section
/-! gate, reset, assemble -/
def ci_zr (d : Nat → Int32) (s : Nat) : Nat → (Nat → Int32)
  | 0 => d
  | n + 1 => upd (ci_zr d s n) (s * 24 + n) 0
theorem ci_side (v : Int32) : v = nI 0 ∨ v = nI 1 ∨ ((v < 0 ∨ ¬ v ≤ 1) ∧ ¬ v = 0 ∧ ¬ v = 1) := by
  by_cases h0 : v = 0
  · exact Or.inl h0
  · by_cases h1 : v = 1
    · exact Or.inr (Or.inl h1)
    · refine Or.inr (Or.inr ⟨?_, h0, h1⟩)
      by_cases h2 : v < 0
      · exact Or.inl h2
      · refine Or.inr (fun h3 => ?_)
        obtain ⟨n, hn, rfl⟩ := nI_of2 (M := 1) (n := 1) (by decide) h2 h3
        have : n = 0 ∨ n = 1 := by omega
        rcases this with rfl | rfl
        · exact h0 rfl
        · exact h1 rfl
theorem cy_side {A B : Prop} {s : Nat} (hs : s < 2) (h : A) : (nI s = 0 → A) ∧ (¬ nI s = 0 → ((nI s = 1 → A) ∧ (¬ nI s = 1 → B))) := by
  refine br_c (fun _ => h) (fun n0 => br_c (fun _ => h) (fun n1 => ?_))
  have : s = 0 ∨ s = 1 := by omega
  rcases this with rfl | rfl
  · exact absurd rfl n0
  · exact absurd rfl n1
theorem cy_sideBad {A B : Prop} {v : Int32} (h0 : ¬ v = 0) (h1 : ¬ v = 1) (h : B) : (v = 0 → A) ∧ (¬ v = 0 → ((v = 1 → A) ∧ (¬ v = 1 → B))) := br_f h0 (br_f h1 h)
section
variable {f_HALT f_MOVE f_ADD f_SUB f_MUL f_LOAD f_STORE f_CONST f_JUMP f_BZ f_BN f_CALL f_RET f_POOL f_VENEER f_AROUND f_LITERAL f_DIRECT f_WAITING f_CELLS f_JUMP_BITS f_IMMEDIATE_BITS f_FAR f_capacity f_depth f_firstShortBits f_firstLoadBits f_shortBits f_loadBits f_count f_size f_literalRuns f_assembled : Int32} {a_lineOp a_lineA a_lineB a_labels a_addresses a_via a_cells a_kinds a_keys a_data a_stack a_held a_spot a_state : Nat → Int32}
theorem ci_gateBad {post : Int32 → Prop} {v : Int32} (h : v < 0 ∨ ¬ v ≤ 1) (hp : post (-1)) : wpX_gate post (f_HALT, f_MOVE, f_ADD, f_SUB, f_MUL, f_LOAD, f_STORE, f_CONST, f_JUMP, f_BZ, f_BN, f_CALL, f_RET, f_POOL, f_VENEER, f_AROUND, f_LITERAL, f_DIRECT, f_WAITING, f_CELLS, f_JUMP_BITS, f_IMMEDIATE_BITS, f_FAR, f_capacity, f_depth, f_firstShortBits, f_firstLoadBits, f_shortBits, f_loadBits, f_count, f_size, f_literalRuns, f_assembled, a_lineOp, a_lineA, a_lineB, a_labels, a_addresses, a_via, a_cells, a_kinds, a_keys, a_data, a_stack, a_held, a_spot, a_state) v := by
  refine br_c (fun _ => hp) (fun n0 => ?_)
  rcases h with h | h
  · exact absurd h n0
  · exact br_f h hp
theorem ci_gateOff {post : Int32 → Prop} {s : Nat} (hs : s < 2) (ha : f_assembled = 0) (hp : post (-2)) : wpX_gate post (f_HALT, f_MOVE, f_ADD, f_SUB, f_MUL, f_LOAD, f_STORE, f_CONST, f_JUMP, f_BZ, f_BN, f_CALL, f_RET, f_POOL, f_VENEER, f_AROUND, f_LITERAL, f_DIRECT, f_WAITING, f_CELLS, f_JUMP_BITS, f_IMMEDIATE_BITS, f_FAR, f_capacity, f_depth, f_firstShortBits, f_firstLoadBits, f_shortBits, f_loadBits, f_count, f_size, f_literalRuns, f_assembled, a_lineOp, a_lineA, a_lineB, a_labels, a_addresses, a_via, a_cells, a_kinds, a_keys, a_data, a_stack, a_held, a_spot, a_state) (nI s) :=
  br_f (nI_pos (by omega)) (br_t (nI_le (b := 1) (by omega) (by omega)) (br_t ha hp))
theorem ci_gateOn {post : Int32 → Prop} {s : Nat} (hs : s < 2) (ha : ¬ f_assembled = 0) (hp : post 0) : wpX_gate post (f_HALT, f_MOVE, f_ADD, f_SUB, f_MUL, f_LOAD, f_STORE, f_CONST, f_JUMP, f_BZ, f_BN, f_CALL, f_RET, f_POOL, f_VENEER, f_AROUND, f_LITERAL, f_DIRECT, f_WAITING, f_CELLS, f_JUMP_BITS, f_IMMEDIATE_BITS, f_FAR, f_capacity, f_depth, f_firstShortBits, f_firstLoadBits, f_shortBits, f_loadBits, f_count, f_size, f_literalRuns, f_assembled, a_lineOp, a_lineA, a_lineB, a_labels, a_addresses, a_via, a_cells, a_kinds, a_keys, a_data, a_stack, a_held, a_spot, a_state) (nI s) :=
  br_f (nI_pos (by omega)) (br_t (nI_le (b := 1) (by omega) (by omega)) (br_f ha hp))
end
section
variable {f_HALT f_MOVE f_ADD f_SUB f_MUL f_LOAD f_STORE f_CONST f_JUMP f_BZ f_BN f_CALL f_RET f_POOL f_VENEER f_AROUND f_LITERAL f_DIRECT f_WAITING f_CELLS f_JUMP_BITS f_IMMEDIATE_BITS f_FAR f_capacity f_depth f_firstShortBits f_firstLoadBits f_literalRuns f_assembled : Int32} {a_lineOp a_lineA a_lineB a_labels a_addresses a_via a_cells a_kinds a_keys a_data a_stack a_held a_spot a_state : Nat → Int32} {c sb lb sz : Nat}
theorem ci_resetSide {post : SX → Prop} {s : Nat} {sp : Int32} (hs : s < 2) (hc : c ≤ 48) (h0 : s = 0 → sp = 0) (h1 : ¬ s = 0 → sp = a_addresses 0)
    (h : post (f_HALT, f_MOVE, f_ADD, f_SUB, f_MUL, f_LOAD, f_STORE, f_CONST, f_JUMP, f_BZ, f_BN, f_CALL, f_RET, f_POOL, f_VENEER, f_AROUND, f_LITERAL, f_DIRECT, f_WAITING, f_CELLS, f_JUMP_BITS, f_IMMEDIATE_BITS, f_FAR, f_capacity, f_depth, f_firstShortBits, f_firstLoadBits, nI sb, nI lb, nI c, nI sz, f_literalRuns, f_assembled, a_lineOp, a_lineA, a_lineB, a_labels, a_addresses, a_via, a_cells, a_kinds, a_keys, ci_zr a_data s 24, a_stack, upd a_held s 0, upd a_spot s sp, upd a_state s 1)) : wpX_resetSide post (f_HALT, f_MOVE, f_ADD, f_SUB, f_MUL, f_LOAD, f_STORE, f_CONST, f_JUMP, f_BZ, f_BN, f_CALL, f_RET, f_POOL, f_VENEER, f_AROUND, f_LITERAL, f_DIRECT, f_WAITING, f_CELLS, f_JUMP_BITS, f_IMMEDIATE_BITS, f_FAR, f_capacity, f_depth, f_firstShortBits, f_firstLoadBits, nI sb, nI lb, nI c, nI sz, f_literalRuns, f_assembled, a_lineOp, a_lineA, a_lineB, a_labels, a_addresses, a_via, a_cells, a_kinds, a_keys, a_data, a_stack, a_held, a_spot, a_state) (nI s) := by
  have es : (nI s).toNatClampNeg = s := nI_clamp (by omega)
  have vs : vp_in (nI s) 2 := vp_in_nI hs (by decide)
  have K : ∀ n x : Nat, 24 < n + x → x ≤ 24 → wX_resetSide_2 post (nI s) f_HALT f_MOVE f_ADD f_SUB f_MUL f_LOAD f_STORE f_CONST f_JUMP f_BZ f_BN f_CALL f_RET f_POOL f_VENEER f_AROUND f_LITERAL f_DIRECT f_WAITING f_CELLS f_JUMP_BITS f_IMMEDIATE_BITS f_FAR f_capacity f_depth f_firstShortBits f_firstLoadBits (nI sb) (nI lb) (nI c) (nI sz) f_literalRuns f_assembled n (nI x) a_lineOp a_lineA a_lineB a_labels a_addresses a_via a_cells a_kinds a_keys (ci_zr a_data s x) a_stack a_held a_spot a_state := by
    intro n
    induction n with
    | zero => intro x h1 h2; omega
    | succ n ih =>
      intro x hn hx
      by_cases hx9 : 24 ≤ x
      · have e : x = 24 := by omega
        subst e
        refine br_t (by decide) ⟨vs, nm_r (e' := upd a_held s 0) (by rw [es]) ?_⟩
        by_cases s0 : s = 0
        · have z0 : nI s = 0 := by rw [s0]; rfl
          refine br_t z0 ⟨vs, nm_r (e' := upd a_spot s sp) (by rw [es, h0 s0]) ⟨vs, nm_r (e' := upd a_state s 1) (by rw [es]) h⟩⟩
        · have z0 : ¬ nI s = 0 := nI_ne0 (by omega) (by omega)
          refine br_f z0 ?_
          refine ci_addressOf (g := 0) hc (by omega) ?_
          exact ⟨vs, nm_r (e' := upd a_spot s sp) (by rw [es, h1 s0]) ⟨vs, nm_r (e' := upd a_state s 1) (by rw [es]) h⟩⟩
      · have ix : nI s * 24 + nI x = nI (s * 24 + x) := ci_x5
        have ex : (nI (s * 24 + x)).toNatClampNeg = s * 24 + x := nI_clamp (by omega)
        refine br_f (nI_ge (b := 24) (by omega) (by omega)) ?_
        rw [ix]
        exact ⟨vp_in_nI (by omega) (by decide), nm_r (e' := ci_zr a_data s (x + 1)) (by rw [ex]; rfl) (nm_r (nI_1 x) (ih (x + 1) (by omega) (by omega)))⟩
  exact ⟨25, K 25 0 (by omega) (by omega)⟩
end
section
variable {g_capacity g_depth g_assembled g_count : Int32} {b_ops b_as b_bs b_bound b_labelLine b_cells b_stack b_entries b_at b_state : Nat → Int32}
theorem cy_resetSide {post : SY → Prop} {s : Nat} (hs : s < 2)
    (h : post (g_capacity, g_depth, g_assembled, g_count, b_ops, b_as, b_bs, b_bound, b_labelLine, ci_zr b_cells s 24, b_stack, upd b_entries s 0, upd b_at s 0, upd b_state s 1)) : wpY_resetSide post (g_capacity, g_depth, g_assembled, g_count, b_ops, b_as, b_bs, b_bound, b_labelLine, b_cells, b_stack, b_entries, b_at, b_state) (nI s) := by
  have es : (nI s).toNatClampNeg = s := nI_clamp (by omega)
  have vs : vp_in (nI s) 2 := vp_in_nI hs (by decide)
  have K : ∀ n x : Nat, 24 < n + x → x ≤ 24 → wY_resetSide_2 post (nI s) g_capacity g_depth g_assembled g_count n (nI x) b_ops b_as b_bs b_bound b_labelLine (ci_zr b_cells s x) b_stack b_entries b_at b_state := by
    intro n
    induction n with
    | zero => intro x h1 h2; omega
    | succ n ih =>
      intro x hn hx
      by_cases hx9 : 24 ≤ x
      · have e : x = 24 := by omega
        subst e
        exact br_t (by decide) ⟨vs, nm_r (e' := upd b_entries s 0) (by rw [es]) ⟨vs, nm_r (e' := upd b_at s 0) (by rw [es]) ⟨vs, nm_r (e' := upd b_state s 1) (by rw [es]) h⟩⟩⟩
      · have ix : nI s * 24 + nI x = nI (s * 24 + x) := ci_x5
        have ex : (nI (s * 24 + x)).toNatClampNeg = s * 24 + x := nI_clamp (by omega)
        refine br_f (nI_ge (b := 24) (by omega) (by omega)) ?_
        rw [ix]
        exact ⟨vp_in_nI (by omega) (by decide), nm_r (e' := ci_zr b_cells s (x + 1)) (by rw [ex]; rfl) (nm_r (nI_1 x) (ih (x + 1) (by omega) (by omega)))⟩
  exact ⟨25, K 25 0 (by omega) (by omega)⟩
end
theorem ci_keyT {lab : Nat → Int32} {o b : Int32} (t : ci_T o) : ci_key lab o b = ci_lol lab b := by
  unfold ci_key
  rw [if_neg (ci_T7 t)]
theorem ci_lolN {lab : Nat → Int32} {n : Nat} (hn : n < 16) : ci_lol lab (nI n) = lab n := by
  unfold ci_lol
  rw [if_neg (nI_pos (by omega)), if_pos (show nI n ≤ 15 from nI_le (b := 15) (by omega) (by omega)), nI_clamp (by omega)]
section
variable {f_HALT f_MOVE f_ADD f_SUB f_MUL f_LOAD f_STORE f_CONST f_JUMP f_BZ f_BN f_CALL f_RET f_POOL f_VENEER f_AROUND f_LITERAL f_DIRECT f_WAITING f_CELLS f_JUMP_BITS f_IMMEDIATE_BITS f_FAR f_size f_literalRuns f_assembled : Int32} {a_lineOp a_lineA a_lineB a_labels a_addresses a_via a_cells a_kinds a_keys a_data a_stack a_held a_spot a_state : Nat → Int32} {b_ops b_as b_bs b_bound b_labelLine b_stack b_at : Nat → Int32} {cap dp fs fl sb lb c : Nat}
theorem cs_x_ok {post : Int32 → SX → Prop} (F1 : ci_F1 cap dp fs fl sb lb c) (F2 : ci_F2 a_lineOp a_lineA a_lineB c) (Bd : ci_Bd a_lineOp a_lineB a_labels c)
    (h : ∀ (sz : Nat) (ad via cl kd ky : Nat → Int32), ci_Lay a_lineOp a_lineA a_lineB a_labels sb lb c sz ad cl kd → post 0 (f_HALT, f_MOVE, f_ADD, f_SUB, f_MUL, f_LOAD, f_STORE, f_CONST, f_JUMP, f_BZ, f_BN, f_CALL, f_RET, f_POOL, f_VENEER, f_AROUND, f_LITERAL, f_DIRECT, f_WAITING, f_CELLS, f_JUMP_BITS, f_IMMEDIATE_BITS, f_FAR, nI cap, nI dp, nI fs, nI fl, nI sb, nI lb, nI c, nI sz, 0, 1, a_lineOp, a_lineA, a_lineB, a_labels, ad, via, cl, kd, ky, ci_zr (ci_zr a_data 0 24) 1 24, a_stack, upd (upd a_held 0 0) 1 0, upd (upd a_spot 0 0) 1 (ad 0), upd (upd a_state 0 1) 1 1)) :
    ∀ n x : Nat, c < n + x → x ≤ c → wX_assemble_12 post f_HALT f_MOVE f_ADD f_SUB f_MUL f_LOAD f_STORE f_CONST f_JUMP f_BZ f_BN f_CALL f_RET f_POOL f_VENEER f_AROUND f_LITERAL f_DIRECT f_WAITING f_CELLS f_JUMP_BITS f_IMMEDIATE_BITS f_FAR (nI cap) (nI dp) (nI fs) (nI fl) (nI sb) (nI lb) (nI c) f_size f_literalRuns f_assembled a_lineOp a_lineA a_lineB a_labels a_addresses a_via a_cells a_kinds a_keys a_data a_stack a_held a_spot a_state n (nI x) := by
  have hc : c ≤ 48 := by have := F1.1; have := F1.2.1; omega
  intro n
  induction n with
  | zero => intro x h1 h2; omega
  | succ n ih =>
    intro x hn hx
    by_cases hxc : c ≤ x
    · refine br_t (nI_le hxc (by omega)) ?_
      refine ci_build F1.2.2.2.2.2.1 F1.2.2.2.2.2.2 (ci_prog F1 F2 Bd) (fun sz ad via cl kd ky L => ?_)
      refine ci_resetSide (s := 0) (sp := 0) (by omega) hc (fun _ => rfl) (fun n => absurd rfl n) ?_
      refine ci_resetSide (s := 1) (sp := ad 0) (by omega) hc (fun n => absurd n (by omega)) (fun _ => rfl) ?_
      exact h sz ad via cl kd ky L
    · have ex : (nI x).toNatClampNeg = x := nI_clamp (by omega)
      have vx : vp_in (nI x) 49 := vp_in_nI (by omega) (by decide)
      have N : ∀ y : Int32, y = nI x + 1 → wX_assemble_12 post f_HALT f_MOVE f_ADD f_SUB f_MUL f_LOAD f_STORE f_CONST f_JUMP f_BZ f_BN f_CALL f_RET f_POOL f_VENEER f_AROUND f_LITERAL f_DIRECT f_WAITING f_CELLS f_JUMP_BITS f_IMMEDIATE_BITS f_FAR (nI cap) (nI dp) (nI fs) (nI fl) (nI sb) (nI lb) (nI c) f_size f_literalRuns f_assembled a_lineOp a_lineA a_lineB a_labels a_addresses a_via a_cells a_kinds a_keys a_data a_stack a_held a_spot a_state n y := fun y ey => by
        rw [ey, nI_1]
        exact ih (x + 1) (by omega) (by omega)
      refine br_f (nI_ge (by omega) (by omega)) ⟨vx, ?_⟩
      rw [ex]
      refine ci_isT (fun _ => br_t rfl N) (fun t => br_f (by decide) ⟨vx, ci_lineOfLabel ?_⟩)
      obtain ⟨g, g1, g2⟩ := Bd x hx t
      rw [ci_keyT t] at g2
      rw [g2]
      exact br_f (ci_n4 (by omega)) N
theorem cs_x_bad {post : Int32 → SX → Prop} (hc : c ≤ 48) (h : post (-3) (f_HALT, f_MOVE, f_ADD, f_SUB, f_MUL, f_LOAD, f_STORE, f_CONST, f_JUMP, f_BZ, f_BN, f_CALL, f_RET, f_POOL, f_VENEER, f_AROUND, f_LITERAL, f_DIRECT, f_WAITING, f_CELLS, f_JUMP_BITS, f_IMMEDIATE_BITS, f_FAR, nI cap, nI dp, nI fs, nI fl, nI sb, nI lb, nI c, f_size, f_literalRuns, f_assembled, a_lineOp, a_lineA, a_lineB, a_labels, a_addresses, a_via, a_cells, a_kinds, a_keys, a_data, a_stack, a_held, a_spot, a_state)) :
    ∀ n x : Nat, c < n + x → x ≤ c → (∃ i, x ≤ i ∧ i < c ∧ ci_T (a_lineOp i) ∧ ci_lol a_labels (a_lineB i) = -4) → wX_assemble_12 post f_HALT f_MOVE f_ADD f_SUB f_MUL f_LOAD f_STORE f_CONST f_JUMP f_BZ f_BN f_CALL f_RET f_POOL f_VENEER f_AROUND f_LITERAL f_DIRECT f_WAITING f_CELLS f_JUMP_BITS f_IMMEDIATE_BITS f_FAR (nI cap) (nI dp) (nI fs) (nI fl) (nI sb) (nI lb) (nI c) f_size f_literalRuns f_assembled a_lineOp a_lineA a_lineB a_labels a_addresses a_via a_cells a_kinds a_keys a_data a_stack a_held a_spot a_state n (nI x) := by
  intro n
  induction n with
  | zero => intro x h1 h2; omega
  | succ n ih =>
    intro x hn hx ⟨i, i1, i2, i3, i4⟩
    have ex : (nI x).toNatClampNeg = x := nI_clamp (by omega)
    have vx : vp_in (nI x) 49 := vp_in_nI (by omega) (by decide)
    have N : ¬ i = x → ∀ y : Int32, y = nI x + 1 → wX_assemble_12 post f_HALT f_MOVE f_ADD f_SUB f_MUL f_LOAD f_STORE f_CONST f_JUMP f_BZ f_BN f_CALL f_RET f_POOL f_VENEER f_AROUND f_LITERAL f_DIRECT f_WAITING f_CELLS f_JUMP_BITS f_IMMEDIATE_BITS f_FAR (nI cap) (nI dp) (nI fs) (nI fl) (nI sb) (nI lb) (nI c) f_size f_literalRuns f_assembled a_lineOp a_lineA a_lineB a_labels a_addresses a_via a_cells a_kinds a_keys a_data a_stack a_held a_spot a_state n y := fun ne y ey => by
      rw [ey, nI_1]
      exact ih (x + 1) (by omega) (by omega) ⟨i, by omega, i2, i3, i4⟩
    refine br_f (nI_ge (by omega) (by omega)) ⟨vx, ?_⟩
    rw [ex]
    refine ci_isT (fun nt => br_t rfl (N (fun e => nt (e ▸ i3)))) (fun t => br_f (by decide) ⟨vx, ci_lineOfLabel ?_⟩)
    exact br_c (fun _ => h) (fun n4 => N (fun e => n4 (e ▸ i4)))
theorem cs_y_ok {post : Int32 → SY → Prop} (hc : c ≤ 48) (F2 : ci_F2 a_lineOp a_lineA a_lineB c) (F3 : ci_PY a_lineOp a_lineA a_lineB a_labels b_ops b_as b_bs b_bound b_labelLine c) (Bd : ci_Bd a_lineOp a_lineB a_labels c)
    (h : post 0 (nI cap, nI dp, 1, nI c, b_ops, b_as, b_bs, b_bound, b_labelLine, ci_zr (ci_zr a_data 0 24) 1 24, b_stack, upd (upd a_held 0 0) 1 0, upd (upd b_at 0 0) 1 0, upd (upd a_state 0 1) 1 1)) :
    ∀ n x : Nat, c < n + x → x ≤ c → wY_assemble_12 post (nI cap) (nI dp) f_assembled (nI c) b_ops b_as b_bs b_bound b_labelLine a_data b_stack a_held b_at a_state n (nI x) := by
  intro n
  induction n with
  | zero => intro x h1 h2; omega
  | succ n ih =>
    intro x hn hx
    by_cases hxc : c ≤ x
    · refine br_t (nI_le hxc (by omega)) ?_
      refine cy_resetSide (s := 0) (by omega) ?_
      refine cy_resetSide (s := 1) (by omega) ?_
      exact h
    · have ex : (nI x).toNatClampNeg = x := nI_clamp (by omega)
      have vx : vp_in (nI x) 48 := vp_in_nI (by omega) (by decide)
      have N : ∀ y : Int32, y = nI x + 1 → wY_assemble_12 post (nI cap) (nI dp) f_assembled (nI c) b_ops b_as b_bs b_bound b_labelLine a_data b_stack a_held b_at a_state n y := fun y ey => by
        rw [ey, nI_1]
        exact ih (x + 1) (by omega) (by omega)
      obtain ⟨y1, y2, y3⟩ := F3.1 x (by omega)
      refine br_f (nI_ge (by omega) (by omega)) ⟨vx, ?_⟩
      rw [ex, y1, y3]
      refine br_c (fun _ => N) (fun d1 => ⟨vx, br_c (fun _ => N) (fun d2 => ⟨vx, ?_⟩)⟩)
      have t : ci_T (a_lineOp x) := ⟨Int32.not_lt.mp d1, Int32.not_lt.mp d2⟩
      obtain ⟨m, hm, em⟩ := (F2.1 x (by omega)).2.2.2 t
      obtain ⟨g, g1, g2⟩ := Bd x hx t
      have e15 : a_lineB x &&& 15 = nI m := by
        rw [em, pk_andN (by omega) 4 (by decide)]
        exact congrArg nI (by omega)
      rw [e15]
      refine ⟨vp_in_nI hm (by decide), br_f ?_ N⟩
      rw [nI_clamp (by omega)]
      rw [ci_keyT t, em, ci_lolN hm] at g2
      rcases F3.2 m hm with ⟨q1, q2⟩ | ⟨q1, q2⟩
      · rw [q1] at g2
        exact absurd g2.symm (ci_n4 (by omega))
      · exact q1
theorem cs_y_bad {post : Int32 → SY → Prop} (hc : c ≤ 48) (F2 : ci_F2 a_lineOp a_lineA a_lineB c) (F3 : ci_PY a_lineOp a_lineA a_lineB a_labels b_ops b_as b_bs b_bound b_labelLine c) (h : post (-3) (nI cap, nI dp, f_assembled, nI c, b_ops, b_as, b_bs, b_bound, b_labelLine, a_data, b_stack, a_held, b_at, a_state)) :
    ∀ n x : Nat, c < n + x → x ≤ c → (∃ i, x ≤ i ∧ i < c ∧ ci_T (a_lineOp i) ∧ ci_lol a_labels (a_lineB i) = -4) → wY_assemble_12 post (nI cap) (nI dp) f_assembled (nI c) b_ops b_as b_bs b_bound b_labelLine a_data b_stack a_held b_at a_state n (nI x) := by
  intro n
  induction n with
  | zero => intro x h1 h2; omega
  | succ n ih =>
    intro x hn hx ⟨i, i1, i2, i3, i4⟩
    have ex : (nI x).toNatClampNeg = x := nI_clamp (by omega)
    have vx : vp_in (nI x) 48 := vp_in_nI (by omega) (by decide)
    have N : ¬ i = x → ∀ y : Int32, y = nI x + 1 → wY_assemble_12 post (nI cap) (nI dp) f_assembled (nI c) b_ops b_as b_bs b_bound b_labelLine a_data b_stack a_held b_at a_state n y := fun ne y ey => by
      rw [ey, nI_1]
      exact ih (x + 1) (by omega) (by omega) ⟨i, by omega, i2, i3, i4⟩
    obtain ⟨y1, y2, y3⟩ := F3.1 x (by omega)
    refine br_f (nI_ge (by omega) (by omega)) ⟨vx, ?_⟩
    rw [ex, y1, y3]
    refine br_c (fun d1 => N (fun e => ?_)) (fun d1 => ⟨vx, br_c (fun d2 => N (fun e => ?_)) (fun d2 => ⟨vx, ?_⟩)⟩)
    · subst e; exact absurd i3.1 (Int32.not_le.mpr d1)
    · subst e; exact absurd i3.2 (Int32.not_le.mpr d2)
    · have t : ci_T (a_lineOp x) := ⟨Int32.not_lt.mp d1, Int32.not_lt.mp d2⟩
      obtain ⟨m, hm, em⟩ := (F2.1 x (by omega)).2.2.2 t
      have e15 : a_lineB x &&& 15 = nI m := by
        rw [em, pk_andN (by omega) 4 (by decide)]
        exact congrArg nI (by omega)
      rw [e15]
      refine ⟨vp_in_nI hm (by decide), br_c (fun _ => h) (fun nb => N (fun e => ?_))⟩
      subst e
      rw [nI_clamp (by omega)] at nb
      rw [em, ci_lolN hm] at i4
      rcases F3.2 m hm with ⟨q1, q2⟩ | ⟨q1, q2, g, q3, q4⟩
      · exact nb q2
      · rw [q2, q4] at i4
        exact absurd i4 (ci_n4 (by omega))
theorem cs_MR0 {ad xst held spot yst yat : Nat → Int32} : ci_MR a_lineOp ad c dp xst (upd (upd held 0 0) 1 0) (upd (upd spot 0 0) 1 (ad 0)) yst (upd (upd yat 0 0) 1 0) := by
  have u0 : ∀ (f : Nat → Int32) (x y : Int32), upd (upd f 0 x) 1 y 0 = x := fun f x y => by rw [pk_un (by decide), pk_us]
  exact ⟨⟨0, by omega, u0 _ _ _, fun j hj => absurd hj (by omega)⟩, ⟨0, by omega, pk_us, fun j hj => absurd hj (by omega)⟩, ⟨0, by omega, u0 _ _ _, u0 _ _ _⟩, ⟨0, by omega, pk_us, pk_us⟩⟩
theorem cs_r0 {ad xst held spot yst yat : Nat → Int32} (M : ci_MR a_lineOp ad c dp xst held spot yst yat) : ci_MR a_lineOp ad c dp xst (upd held 0 0) (upd spot 0 0) yst (upd yat 0 0) := by
  have u1 : ∀ (f : Nat → Int32) (x : Int32), upd f 0 x 1 = f 1 := fun f x => pk_un (by decide)
  refine ⟨⟨0, by omega, pk_us, fun j hj => absurd hj (by omega)⟩, ?_, ⟨0, by omega, pk_us, pk_us⟩, ?_⟩
  · rw [u1]; exact M.2.1
  · rw [u1, u1]; exact M.2.2.2
theorem cs_r1 {ad xst held spot yst yat : Nat → Int32} (M : ci_MR a_lineOp ad c dp xst held spot yst yat) : ci_MR a_lineOp ad c dp xst (upd held 1 0) (upd spot 1 (ad 0)) yst (upd yat 1 0) := by
  have u1 : ∀ (f : Nat → Int32) (x : Int32), upd f 1 x 0 = f 0 := fun f x => pk_un (by decide)
  refine ⟨?_, ⟨0, by omega, pk_us, fun j hj => absurd hj (by omega)⟩, ?_, ⟨0, by omega, pk_us, pk_us⟩⟩
  · rw [u1]; exact M.1
  · rw [u1, u1]; exact M.2.2.1
end
theorem i_vc_assemble {k : Nat} {u : SX} {v : SY} (I : i_Rel k u v) (hk : k + 4 ≤ 2052) : wpX_assemble (fun r u' => wpY_assemble (fun r' v' => r' = r ∧ i_Rel (k + 4) u' v') v) u := by
  refine ci_el (P := fun u v => wpX_assemble (fun r u' => wpY_assemble (fun r' v' => r' = r ∧ i_Rel (k + 4) u' v') v) u) I ?_
  intro f_HALT f_MOVE f_ADD f_SUB f_MUL f_LOAD f_STORE f_CONST f_JUMP f_BZ f_BN f_CALL f_RET f_POOL f_VENEER f_AROUND f_LITERAL f_DIRECT f_WAITING f_CELLS f_JUMP_BITS f_IMMEDIATE_BITS f_FAR f_size f_literalRuns f_assembled a_lineOp a_lineA a_lineB a_labels a_addresses a_via a_cells a_kinds a_keys a_data a_stack a_held a_spot a_state b_ops b_as b_bs b_bound b_labelLine b_stack b_at cap dp fs fl sb lb c F1 F2 F3 F4
  have hc : c ≤ 48 := by have := F1.1; have := F1.2.1; omega
  by_cases ha : f_assembled = 0
  · by_cases Bd : ci_Bd a_lineOp a_lineB a_labels c
    · refine br_t ha ⟨c + 1, cs_x_ok F1 F2 Bd (fun sz ad via cl kd ky L => ?_) (c + 1) 0 (by omega) (by omega)⟩
      refine br_t ha ⟨c + 1, cs_y_ok hc F2 F3 Bd ⟨rfl, ?_⟩ (c + 1) 0 (by omega) (by omega)⟩
      exact ci_mk F1 F2 F3 (fun _ => ⟨sz, rfl, rfl, Bd, L, cs_MR0⟩)
    · have ex : ∃ i, 0 ≤ i ∧ i < c ∧ ci_T (a_lineOp i) ∧ ci_lol a_labels (a_lineB i) = -4 := by
        apply Classical.byContradiction
        intro nx
        apply Bd
        intro i hi t
        have hic : i < c := by
          by_cases l : i < c
          · exact l
          · rw [F2.2 i (by omega) (by omega)] at t
            exact absurd t.1 (by decide)
        obtain ⟨m, hm, em⟩ := (F2.1 i (by omega)).2.2.2 t
        rw [ci_keyT t]
        rcases F3.2 m hm with ⟨q1, q2⟩ | ⟨q1, q2, g, q3, q4⟩
        · refine absurd ⟨i, by omega, hic, t, ?_⟩ nx
          rw [em, ci_lolN hm]
          exact q1
        · refine ⟨g, q3, ?_⟩
          rw [em, ci_lolN hm, q2]
          exact q4
      refine br_t ha ⟨c + 1, cs_x_bad hc ?_ (c + 1) 0 (by omega) (by omega) ex⟩
      exact br_t ha ⟨c + 1, cs_y_bad hc F2 F3 ⟨rfl, ci_mk F1 F2 F3 F4⟩ (c + 1) 0 (by omega) (by omega) ex⟩
  · exact br_f ha (br_f ha ⟨rfl, ci_mk F1 F2 F3 F4⟩)
theorem i_vc_reset {k : Nat} {u : SX} {v : SY} (I : i_Rel k u v) (hk : k + 4 ≤ 2052) (v1 : Int32) : wpX_reset (fun r u' => wpY_reset (fun r' v' => r' = r ∧ i_Rel (k + 4) u' v') v v1) u v1 := by
  refine ci_el (P := fun u v => wpX_reset (fun r u' => wpY_reset (fun r' v' => r' = r ∧ i_Rel (k + 4) u' v') v v1) u v1) I ?_
  intro f_HALT f_MOVE f_ADD f_SUB f_MUL f_LOAD f_STORE f_CONST f_JUMP f_BZ f_BN f_CALL f_RET f_POOL f_VENEER f_AROUND f_LITERAL f_DIRECT f_WAITING f_CELLS f_JUMP_BITS f_IMMEDIATE_BITS f_FAR f_size f_literalRuns f_assembled a_lineOp a_lineA a_lineB a_labels a_addresses a_via a_cells a_kinds a_keys a_data a_stack a_held a_spot a_state b_ops b_as b_bs b_bound b_labelLine b_stack b_at cap dp fs fl sb lb c F1 F2 F3 F4
  have hc : c ≤ 48 := by have := F1.1; have := F1.2.1; omega
  rcases ci_side v1 with e | e | ⟨bad, n0, n1⟩
  · subst e
    by_cases ha : f_assembled = 0
    · unfold wpX_reset
      refine ci_gateOff (by omega) ha (br_f (by decide) ?_)
      exact cy_side (by omega) (br_t ha ⟨rfl, ci_mk F1 F2 F3 F4⟩)
    · obtain ⟨sz, rfl, e2, Bd, L, M⟩ := F4 ha
      unfold wpX_reset
      refine ci_gateOn (by omega) ha (br_t rfl ?_)
      refine ci_resetSide (s := 0) (sp := 0) (by omega) hc (fun _ => rfl) (fun n => absurd rfl n) ?_
      refine cy_side (by omega) (br_f ha ?_)
      refine cy_resetSide (s := 0) (by omega) ⟨rfl, ?_⟩
      exact ci_mk F1 F2 F3 (fun _ => ⟨sz, rfl, e2, Bd, L, cs_r0 M⟩)
  · subst e
    by_cases ha : f_assembled = 0
    · unfold wpX_reset
      refine ci_gateOff (by omega) ha (br_f (by decide) ?_)
      exact cy_side (by omega) (br_t ha ⟨rfl, ci_mk F1 F2 F3 F4⟩)
    · obtain ⟨sz, rfl, e2, Bd, L, M⟩ := F4 ha
      unfold wpX_reset
      refine ci_gateOn (by omega) ha (br_t rfl ?_)
      refine ci_resetSide (s := 1) (sp := a_addresses 0) (by omega) hc (fun n => absurd n (by omega)) (fun _ => rfl) ?_
      refine cy_side (by omega) (br_f ha ?_)
      refine cy_resetSide (s := 1) (by omega) ⟨rfl, ?_⟩
      exact ci_mk F1 F2 F3 (fun _ => ⟨sz, rfl, e2, Bd, L, cs_r1 M⟩)
  · unfold wpX_reset
    refine ci_gateBad bad (br_f (by decide) ?_)
    exact cy_sideBad n0 n1 ⟨rfl, ci_mk F1 F2 F3 F4⟩
end
section
/-! rebuild, relink, patch -/
section
variable {f_HALT f_MOVE f_ADD f_SUB f_MUL f_LOAD f_STORE f_CONST f_JUMP f_BZ f_BN f_CALL f_RET f_POOL f_VENEER f_AROUND f_LITERAL f_DIRECT f_WAITING f_CELLS f_JUMP_BITS f_IMMEDIATE_BITS f_FAR f_capacity f_depth f_firstShortBits f_firstLoadBits f_literalRuns f_assembled : Int32} {a_lineOp a_lineA a_lineB a_labels a_addresses a_via a_cells a_kinds a_keys a_data a_stack a_held a_spot a_state : Nat → Int32} {c sb lb sz : Nat}
theorem cb_54 {post : SX → Prop} {h p : Nat} {yst st0 : Nat → Int32} (eh : a_held 1 = nI h) (h8 : h ≤ 8) (hc : c ≤ 48) (hp : p ≤ c)
    (K : ∀ xs : Nat → Int32, (∀ j, j < 8 → xs j = st0 j) → (∀ j, j < h → ∃ l, l < c ∧ yst (8 + j) = nI (l + 1) ∧ a_lineOp l = 11 ∧ xs (8 + j) = a_addresses l + 1) → post (f_HALT, f_MOVE, f_ADD, f_SUB, f_MUL, f_LOAD, f_STORE, f_CONST, f_JUMP, f_BZ, f_BN, f_CALL, f_RET, f_POOL, f_VENEER, f_AROUND, f_LITERAL, f_DIRECT, f_WAITING, f_CELLS, f_JUMP_BITS, f_IMMEDIATE_BITS, f_FAR, f_capacity, f_depth, f_firstShortBits, f_firstLoadBits, nI sb, nI lb, nI c, nI sz, f_literalRuns, f_assembled, a_lineOp, a_lineA, a_lineB, a_labels, a_addresses, a_via, a_cells, a_kinds, a_keys, a_data, xs, a_held, upd a_spot 1 (a_addresses p), a_state)) :
    ∀ (n x : Nat) (xs : Nat → Int32), h < n + x → x ≤ h → (∀ j, j < 8 → xs j = st0 j) → (∀ j, j < x → ∃ l, l < c ∧ yst (8 + j) = nI (l + 1) ∧ a_lineOp l = 11 ∧ xs (8 + j) = a_addresses l + 1) → (∀ j, x ≤ j → j < h → ∃ l, l < c ∧ yst (8 + j) = nI (l + 1) ∧ a_lineOp l = 11 ∧ xs (8 + j) = nI l) → wX_rebuild_54 post (nI p) f_HALT f_MOVE f_ADD f_SUB f_MUL f_LOAD f_STORE f_CONST f_JUMP f_BZ f_BN f_CALL f_RET f_POOL f_VENEER f_AROUND f_LITERAL f_DIRECT f_WAITING f_CELLS f_JUMP_BITS f_IMMEDIATE_BITS f_FAR f_capacity f_depth f_firstShortBits f_firstLoadBits (nI sb) (nI lb) (nI c) (nI sz) f_literalRuns f_assembled n (nI x) a_lineOp a_lineA a_lineB a_labels a_addresses a_via a_cells a_kinds a_keys a_data xs a_held a_spot a_state := by
  intro n
  induction n with
  | zero => intro x xs h1 h2; omega
  | succ n ih =>
    intro x xs hn hx V1 V2 V3
    by_cases hxh : h ≤ x
    · refine br_t (by rw [eh]; exact nI_le hxh (by omega)) ?_
      refine ci_addressOf hc hp ?_
      exact nm_e (K xs V1 (fun j hj => V2 j (by omega)))
    · have ix : (8 : Int32) + nI x = nI (8 + x) := nI_add 8 x
      have ex : (nI (8 + x)).toNatClampNeg = 8 + x := nI_clamp (by omega)
      have vx : vp_in (nI (8 + x)) 16 := vp_in_nI (by omega) (by decide)
      obtain ⟨l, l1, l2, l3, l4⟩ := V3 x (Nat.le_refl _) (by omega)
      refine br_f (by rw [eh]; exact nI_ge (by omega) (by omega)) ?_
      rw [ix, ex, l4]
      refine ⟨vx, ?_⟩
      refine ci_addressOf hc (by omega) ?_
      refine ⟨vx, nm_e (nm_r (nI_1 x) ?_)⟩
      refine ih (x + 1) _ (by omega) (by omega) (fun j hj => ?_) (fun j hj => ?_) (fun j h1 h2 => ?_)
      · rw [pk_un (by omega)]; exact V1 j hj
      · by_cases e : j = x
        · subst e
          exact ⟨l, l1, l2, l3, pk_us⟩
        · rw [pk_un (by omega)]
          exact V2 j (by omega)
      · rw [pk_un (by omega)]
        exact V3 j (by omega) h2
theorem cb_8 {post : SX → Prop} {h p : Nat} {yst : Nat → Int32} (eh : a_held 1 = nI h) (h8 : h ≤ 8) (hz : sz ≤ 192) (hp : p ≤ c) (hs : ci_W sb) (hl : ci_W lb) (P : ci_Prog a_lineOp a_lineA a_lineB a_labels c)
    (hO : ∀ i, i ≤ c → ∃ q, q < sz ∧ a_addresses i = nI q ∧ a_kinds q = nI i)
    (K : ∀ (sz : Nat) (ad via cl kd ky xs : Nat → Int32), ci_Lay a_lineOp a_lineA a_lineB a_labels sb lb c sz ad cl kd → (∀ j, j < 8 → xs j = a_stack j) → (∀ j, j < h → ∃ l, l < c ∧ yst (8 + j) = nI (l + 1) ∧ a_lineOp l = 11 ∧ xs (8 + j) = ad l + 1) → post (f_HALT, f_MOVE, f_ADD, f_SUB, f_MUL, f_LOAD, f_STORE, f_CONST, f_JUMP, f_BZ, f_BN, f_CALL, f_RET, f_POOL, f_VENEER, f_AROUND, f_LITERAL, f_DIRECT, f_WAITING, f_CELLS, f_JUMP_BITS, f_IMMEDIATE_BITS, f_FAR, f_capacity, f_depth, f_firstShortBits, f_firstLoadBits, nI sb, nI lb, nI c, nI sz, f_literalRuns, f_assembled, a_lineOp, a_lineA, a_lineB, a_labels, ad, via, cl, kd, ky, a_data, xs, a_held, upd a_spot 1 (ad p), a_state)) :
    ∀ (n x : Nat) (xs : Nat → Int32), h < n + x → x ≤ h → (∀ j, j < 8 → xs j = a_stack j) → (∀ j, j < x → ∃ l, l < c ∧ yst (8 + j) = nI (l + 1) ∧ a_lineOp l = 11 ∧ xs (8 + j) = nI l) → (∀ j, x ≤ j → j < h → ∃ l, l < c ∧ yst (8 + j) = nI (l + 1) ∧ a_lineOp l = 11 ∧ xs (8 + j) = a_addresses l + 1) → wX_rebuild_8 post (nI p) f_HALT f_MOVE f_ADD f_SUB f_MUL f_LOAD f_STORE f_CONST f_JUMP f_BZ f_BN f_CALL f_RET f_POOL f_VENEER f_AROUND f_LITERAL f_DIRECT f_WAITING f_CELLS f_JUMP_BITS f_IMMEDIATE_BITS f_FAR f_capacity f_depth f_firstShortBits f_firstLoadBits (nI sb) (nI lb) (nI c) (nI sz) f_literalRuns f_assembled n (nI x) a_lineOp a_lineA a_lineB a_labels a_addresses a_via a_cells a_kinds a_keys a_data xs a_held a_spot a_state := by
  intro n
  induction n with
  | zero => intro x xs h1 h2; omega
  | succ n ih =>
    intro x xs hn hx V1 V2 V3
    by_cases hxh : h ≤ x
    · refine br_t (by rw [eh]; exact nI_le hxh (by omega)) ?_
      refine ci_build hs hl P (fun sz ad via cl kd ky L => ?_)
      refine ⟨h + 1, cb_54 (st0 := a_stack) (yst := yst) eh h8 P.1 hp (fun xs W1 W2 => K sz ad via cl kd ky xs L W1 W2) (h + 1) 0 xs (by omega) (by omega) V1 (fun j hj => absurd hj (by omega)) (fun j _ hj => V2 j (by omega))⟩
    · have ix : (8 : Int32) + nI x = nI (8 + x) := nI_add 8 x
      have ex : (nI (8 + x)).toNatClampNeg = 8 + x := nI_clamp (by omega)
      have vx : vp_in (nI (8 + x)) 16 := vp_in_nI (by omega) (by decide)
      obtain ⟨l, l1, l2, l3, l4⟩ := V3 x (Nat.le_refl _) (by omega)
      obtain ⟨q, q1, q2, q3⟩ := hO l (by omega)
      refine br_f (by rw [eh]; exact nI_ge (by omega) (by omega)) ?_
      rw [ix, ex, l4, q2, nI_1 q, nI_pred q]
      refine ⟨vx, ?_⟩
      refine ci_kindAt hz q1 ?_
      rw [q3]
      refine ⟨vx, nm_e (nm_r (nI_1 x) ?_)⟩
      refine ih (x + 1) _ (by omega) (by omega) (fun j hj => ?_) (fun j hj => ?_) (fun j h1 h2 => ?_)
      · rw [pk_un (by omega)]; exact V1 j hj
      · by_cases e : j = x
        · subst e
          exact ⟨l, l1, l2, l3, pk_us⟩
        · rw [pk_un (by omega)]
          exact V2 j (by omega)
      · rw [pk_un (by omega)]
        exact V3 j (by omega) h2
theorem ci_rebuild {post : SX → Prop} {dp : Nat} {yst yat : Nat → Int32} (hd : dp ≤ 8) (hz : sz ≤ 192) (hs : ci_W sb) (hl : ci_W lb) (P : ci_Prog a_lineOp a_lineA a_lineB a_labels c)
    (hO : ∀ i, i ≤ c → ∃ q, q < sz ∧ a_addresses i = nI q ∧ a_kinds q = nI i) (M : ci_MR a_lineOp a_addresses c dp a_stack a_held a_spot yst yat)
    (K : ∀ (sz : Nat) (ad via cl kd ky xs sp : Nat → Int32), ci_Lay a_lineOp a_lineA a_lineB a_labels sb lb c sz ad cl kd → ci_MR a_lineOp ad c dp xs a_held sp yst yat → post (f_HALT, f_MOVE, f_ADD, f_SUB, f_MUL, f_LOAD, f_STORE, f_CONST, f_JUMP, f_BZ, f_BN, f_CALL, f_RET, f_POOL, f_VENEER, f_AROUND, f_LITERAL, f_DIRECT, f_WAITING, f_CELLS, f_JUMP_BITS, f_IMMEDIATE_BITS, f_FAR, f_capacity, f_depth, f_firstShortBits, f_firstLoadBits, nI sb, nI lb, nI c, nI sz, f_literalRuns, f_assembled, a_lineOp, a_lineA, a_lineB, a_labels, ad, via, cl, kd, ky, a_data, xs, a_held, sp, a_state)) : wpX_rebuild post (f_HALT, f_MOVE, f_ADD, f_SUB, f_MUL, f_LOAD, f_STORE, f_CONST, f_JUMP, f_BZ, f_BN, f_CALL, f_RET, f_POOL, f_VENEER, f_AROUND, f_LITERAL, f_DIRECT, f_WAITING, f_CELLS, f_JUMP_BITS, f_IMMEDIATE_BITS, f_FAR, f_capacity, f_depth, f_firstShortBits, f_firstLoadBits, nI sb, nI lb, nI c, nI sz, f_literalRuns, f_assembled, a_lineOp, a_lineA, a_lineB, a_labels, a_addresses, a_via, a_cells, a_kinds, a_keys, a_data, a_stack, a_held, a_spot, a_state) := by
  obtain ⟨M0, ⟨h, h1, h2, h3⟩, ⟨p0, r1, r2, r3⟩, ⟨p, p1, p2, p3⟩⟩ := M
  obtain ⟨q, q1, q2, q3⟩ := hO p p1
  unfold wpX_rebuild
  refine ci_standing1 hz q1 (p3.trans q2) ?_
  rw [q3]
  refine ⟨h + 1, cb_8 (yst := yst) h2 (by omega) hz p1 hs hl P hO (fun sz ad via cl kd ky xs L W1 W2 => ?_) (h + 1) 0 a_stack (by omega) (by omega) (fun _ _ => rfl) (fun j hj => absurd hj (by omega)) (fun j _ hj => h3 j hj)⟩
  refine K sz ad via cl kd ky xs (upd a_spot 1 (ad p)) L ⟨?_, ⟨h, h1, h2, W2⟩, ⟨p0, r1, (pk_un (by decide)).trans r2, r3⟩, ⟨p, p1, p2, pk_us⟩⟩
  obtain ⟨k, k1, k2, k3⟩ := M0
  refine ⟨k, k1, k2, fun j hj => ?_⟩
  rw [W1 j (by omega)]
  exact k3 j hj
end
theorem ci_old {op A B lab ad cl kd : Nat → Int32} {sb lb c sz : Nat} (L : ci_Lay op A B lab sb lb c sz ad cl kd) : ∀ i, i ≤ c → ∃ q, q < sz ∧ ad i = nI q ∧ kd q = nI i := by
  intro i hi
  obtain ⟨q, q1, q2, q3, _⟩ := L.2 i hi
  exact ⟨q, q1, q2, q3⟩
theorem ci_bits {v : Int32} (h1 : ¬ v < 3) (h2 : ¬ 8 < v) : ∃ n, ci_W n ∧ v = nI n := by
  have h3 : ¬ v < 0 := fun z => h1 (by
    rw [Int32.lt_iff_toInt_lt] at z ⊢
    rw [show (0 : Int32).toInt = 0 from by decide] at z
    rw [show (3 : Int32).toInt = 3 from by decide]
    omega)
  obtain ⟨n, hn, rfl⟩ := nI_of h3
  refine ⟨n, ⟨?_, ?_⟩, rfl⟩
  · apply Classical.byContradiction
    intro z
    exact h1 (nI_lt (b := 3) (by omega) (by omega))
  · apply Classical.byContradiction
    intro z
    exact h2 (nI_lt (a := 8) (by omega) hn)
theorem i_vc_relink {k : Nat} {u : SX} {v : SY} (I : i_Rel k u v) (hk : k + 4 ≤ 2052) (v1 : Int32) (v2 : Int32) : wpX_relink (fun r u' => wpY_relink (fun r' => r' = r ∧ i_Rel (k + 4) u' v) v v1 v2) u v1 v2 := by
  refine ci_el (P := fun u v => wpX_relink (fun r u' => wpY_relink (fun r' => r' = r ∧ i_Rel (k + 4) u' v) v v1 v2) u v1 v2) I ?_
  intro f_HALT f_MOVE f_ADD f_SUB f_MUL f_LOAD f_STORE f_CONST f_JUMP f_BZ f_BN f_CALL f_RET f_POOL f_VENEER f_AROUND f_LITERAL f_DIRECT f_WAITING f_CELLS f_JUMP_BITS f_IMMEDIATE_BITS f_FAR f_size f_literalRuns f_assembled a_lineOp a_lineA a_lineB a_labels a_addresses a_via a_cells a_kinds a_keys a_data a_stack a_held a_spot a_state b_ops b_as b_bs b_bound b_labelLine b_stack b_at cap dp fs fl sb lb c F1 F2 F3 F4
  by_cases ha : f_assembled = 0
  · exact br_t ha (br_t ha ⟨rfl, ci_mk F1 F2 F3 F4⟩)
  · by_cases a1 : v1 < 3
    · exact br_f ha (br_t a1 (br_f ha (br_t a1 ⟨rfl, ci_mk F1 F2 F3 F4⟩)))
    · by_cases a2 : 8 < v1
      · exact br_f ha (br_f a1 (br_t a2 (br_f ha (br_f a1 (br_t a2 ⟨rfl, ci_mk F1 F2 F3 F4⟩)))))
      · by_cases a3 : v2 < 3
        · exact br_f ha (br_f a1 (br_f a2 (br_t a3 (br_f ha (br_f a1 (br_f a2 (br_t a3 ⟨rfl, ci_mk F1 F2 F3 F4⟩)))))))
        · by_cases a4 : v2 ≤ 8
          · obtain ⟨s', ws, rfl⟩ := ci_bits a1 a2
            obtain ⟨l', wl, rfl⟩ := ci_bits a3 (Int32.not_lt.mpr a4)
            obtain ⟨sz, rfl, e2, Bd, L, M⟩ := F4 ha
            refine br_f ha (br_f a1 (br_f a2 (br_f a3 (br_t a4 ?_))))
            refine ci_rebuild F1.2.2.1 L.1 ws wl (ci_prog F1 F2 Bd) (ci_old L) M (fun sz ad via cl kd ky xs sp L' M' => ?_)
            refine br_f ha (br_f a1 (br_f a2 (br_f a3 (br_t a4 ⟨rfl, ?_⟩))))
            exact ci_mk ⟨F1.1, F1.2.1, F1.2.2.1, F1.2.2.2.1, F1.2.2.2.2.1, ws, wl⟩ F2 F3 (fun _ => ⟨sz, rfl, e2, Bd, L', M'⟩)
          · exact br_f ha (br_f a1 (br_f a2 (br_f a3 (br_f a4 (br_f ha (br_f a1 (br_f a2 (br_f a3 (br_f a4 ⟨rfl, ci_mk F1 F2 F3 F4⟩)))))))))
theorem i_vc_patch {k : Nat} {u : SX} {v : SY} (I : i_Rel k u v) (hk : k + 4 ≤ 2052) (v1 : Int32) (v2 : Int32) : wpX_patch (fun r u' => wpY_patch (fun r' v' => r' = r ∧ i_Rel (k + 4) u' v') v v1 v2) u v1 v2 := by
  refine ci_el (P := fun u v => wpX_patch (fun r u' => wpY_patch (fun r' v' => r' = r ∧ i_Rel (k + 4) u' v') v v1 v2) u v1 v2) I ?_
  intro f_HALT f_MOVE f_ADD f_SUB f_MUL f_LOAD f_STORE f_CONST f_JUMP f_BZ f_BN f_CALL f_RET f_POOL f_VENEER f_AROUND f_LITERAL f_DIRECT f_WAITING f_CELLS f_JUMP_BITS f_IMMEDIATE_BITS f_FAR f_size f_literalRuns f_assembled a_lineOp a_lineA a_lineB a_labels a_addresses a_via a_cells a_kinds a_keys a_data a_stack a_held a_spot a_state b_ops b_as b_bs b_bound b_labelLine b_stack b_at cap dp fs fl sb lb c F1 F2 F3 F4
  have hc : c ≤ 48 := by have := F1.1; have := F1.2.1; omega
  by_cases ha : f_assembled = 0
  · exact br_t ha (br_t ha ⟨rfl, ci_mk F1 F2 F3 F4⟩)
  · by_cases a1 : v1 < 0
    · exact br_f ha (br_t a1 (br_f ha (br_t a1 ⟨rfl, ci_mk F1 F2 F3 F4⟩)))
    · obtain ⟨i, hi, rfl⟩ := nI_of a1
      by_cases a2 : c ≤ i
      · exact br_f ha (br_f a1 (br_t (nI_le a2 hi) (br_f ha (br_f a1 (br_f (nI_nlt a2 hi) ⟨rfl, ci_mk F1 F2 F3 F4⟩)))))
      · have ei : (nI i).toNatClampNeg = i := nI_clamp hi
        have vi : vp_in (nI i) 49 := vp_in_nI (by omega) (by decide)
        have wi : vp_in (nI i) 48 := vp_in_nI (by omega) (by decide)
        obtain ⟨y1, y2, y3⟩ := F3.1 i (by omega)
        by_cases a7 : a_lineOp i = 7
        · have x7 : a_lineOp (nI i).toNatClampNeg = 7 := by rw [ei]; exact a7
          have z7 : b_ops (nI i).toNatClampNeg = 7 := by rw [ei, y1]; exact a7
          obtain ⟨sz, rfl, e2, Bd, L, M⟩ := F4 ha
          have F2' : ci_F2 a_lineOp a_lineA (upd a_lineB i v2) c := by
            refine ⟨fun j hj => ?_, F2.2⟩
            by_cases e : j = i
            · subst e
              obtain ⟨q1, q2, q3, q4⟩ := F2.1 j hj
              refine ⟨q1, q2, fun n => absurd a7 n, fun t => ?_⟩
              exact absurd a7 (ci_T7 t)
            · rw [pk_un e]; exact F2.1 j hj
          have Bd' : ci_Bd a_lineOp (upd a_lineB i v2) a_labels c := by
            intro j hj t
            have e : j ≠ i := fun e => ci_T7 t (e ▸ a7)
            rw [pk_un e]
            exact Bd j hj t
          have F3' : ci_PY a_lineOp a_lineA (upd a_lineB i v2) a_labels b_ops b_as (upd b_bs i v2) b_bound b_labelLine c := by
            refine ⟨fun j hj => ?_, F3.2⟩
            by_cases e : j = i
            · subst e
              rw [pk_us, pk_us]
              exact ⟨y1, y2, rfl⟩
            · rw [pk_un e, pk_un e]
              exact F3.1 j hj
          refine br_f ha (br_f a1 (br_f (nI_ge (by omega) (by omega)) ⟨vi, br_t x7 ⟨vi, nm_r (e' := upd a_lineB i v2) (by rw [ei]) ?_⟩⟩))
          refine ci_rebuild F1.2.2.1 L.1 F1.2.2.2.2.2.1 F1.2.2.2.2.2.2 (ci_prog F1 F2' Bd') (ci_old L) M (fun sz ad via cl kd ky xs sp L' M' => ?_)
          refine br_f ha (br_f a1 (br_t (nI_lt (by omega) (by omega)) ⟨wi, br_t z7 ⟨wi, nm_r (e' := upd b_bs i v2) (by rw [ei]) ⟨rfl, ?_⟩⟩⟩))
          exact ci_mk F1 F2' F3' (fun _ => ⟨sz, rfl, e2, Bd', L', M'⟩)
        · have x7 : ¬ a_lineOp (nI i).toNatClampNeg = 7 := by rw [ei]; exact a7
          have z7 : ¬ b_ops (nI i).toNatClampNeg = 7 := by rw [ei, y1]; exact a7
          exact br_f ha (br_f a1 (br_f (nI_ge (by omega) (by omega)) ⟨vi, br_f x7 (br_f ha (br_f a1 (br_t (nI_lt (by omega) (by omega)) ⟨wi, br_f z7 ⟨rfl, ci_mk F1 F2 F3 F4⟩⟩)))⟩))
end
section
/-! run, in lockstep -/
section
variable {f_HALT f_MOVE f_ADD f_SUB f_MUL f_LOAD f_STORE f_CONST f_JUMP f_BZ f_BN f_CALL f_RET f_POOL f_VENEER f_AROUND f_LITERAL f_DIRECT f_WAITING f_CELLS f_JUMP_BITS f_IMMEDIATE_BITS f_FAR f_capacity f_firstShortBits f_firstLoadBits f_literalRuns f_assembled : Int32} {a_lineOp a_lineA a_lineB a_labels a_addresses a_via a_cells a_kinds a_keys a_data a_stack a_held a_spot a_state : Nat → Int32} {g_capacity g_assembled : Int32} {b_ops b_as b_bs b_bound b_labelLine b_stack b_at : Nat → Int32} {c sb lb sz dp : Nat}
theorem cr_step {s : Nat} (hs : s < 2) (hc : c ≤ 48) (hd : dp ≤ 8) (P : ci_Prog a_lineOp a_lineA a_lineB a_labels c) (L : ci_Lay a_lineOp a_lineA a_lineB a_labels sb lb c sz a_addresses a_cells a_kinds) (PY : ci_PY a_lineOp a_lineA a_lineB a_labels b_ops b_as b_bs b_bound b_labelLine c) (M : ci_MR a_lineOp a_addresses c dp a_stack a_held a_spot b_stack b_at) :
    ∃ dt xs hl sp st ys ya : Nat → Int32, ci_MR a_lineOp a_addresses c dp xs hl sp ys ya ∧ (s = 0 → ∀ post : SX → Prop, post (f_HALT, f_MOVE, f_ADD, f_SUB, f_MUL, f_LOAD, f_STORE, f_CONST, f_JUMP, f_BZ, f_BN, f_CALL, f_RET, f_POOL, f_VENEER, f_AROUND, f_LITERAL, f_DIRECT, f_WAITING, f_CELLS, f_JUMP_BITS, f_IMMEDIATE_BITS, f_FAR, f_capacity, nI dp, f_firstShortBits, f_firstLoadBits, nI sb, nI lb, nI c, nI sz, f_literalRuns, f_assembled, a_lineOp, a_lineA, a_lineB, a_labels, a_addresses, a_via, a_cells, a_kinds, a_keys, dt, xs, hl, sp, st) → wpX_stepSource post (f_HALT, f_MOVE, f_ADD, f_SUB, f_MUL, f_LOAD, f_STORE, f_CONST, f_JUMP, f_BZ, f_BN, f_CALL, f_RET, f_POOL, f_VENEER, f_AROUND, f_LITERAL, f_DIRECT, f_WAITING, f_CELLS, f_JUMP_BITS, f_IMMEDIATE_BITS, f_FAR, f_capacity, nI dp, f_firstShortBits, f_firstLoadBits, nI sb, nI lb, nI c, nI sz, f_literalRuns, f_assembled, a_lineOp, a_lineA, a_lineB, a_labels, a_addresses, a_via, a_cells, a_kinds, a_keys, a_data, a_stack, a_held, a_spot, a_state)) ∧ (s = 1 → ∀ post : SX → Prop, post (f_HALT, f_MOVE, f_ADD, f_SUB, f_MUL, f_LOAD, f_STORE, f_CONST, f_JUMP, f_BZ, f_BN, f_CALL, f_RET, f_POOL, f_VENEER, f_AROUND, f_LITERAL, f_DIRECT, f_WAITING, f_CELLS, f_JUMP_BITS, f_IMMEDIATE_BITS, f_FAR, f_capacity, nI dp, f_firstShortBits, f_firstLoadBits, nI sb, nI lb, nI c, nI sz, f_literalRuns, f_assembled, a_lineOp, a_lineA, a_lineB, a_labels, a_addresses, a_via, a_cells, a_kinds, a_keys, dt, xs, hl, sp, st) → wpX_stepImage post (f_HALT, f_MOVE, f_ADD, f_SUB, f_MUL, f_LOAD, f_STORE, f_CONST, f_JUMP, f_BZ, f_BN, f_CALL, f_RET, f_POOL, f_VENEER, f_AROUND, f_LITERAL, f_DIRECT, f_WAITING, f_CELLS, f_JUMP_BITS, f_IMMEDIATE_BITS, f_FAR, f_capacity, nI dp, f_firstShortBits, f_firstLoadBits, nI sb, nI lb, nI c, nI sz, f_literalRuns, f_assembled, a_lineOp, a_lineA, a_lineB, a_labels, a_addresses, a_via, a_cells, a_kinds, a_keys, a_data, a_stack, a_held, a_spot, a_state)) ∧ (∀ post : SY → Prop, post (g_capacity, nI dp, g_assembled, nI c, b_ops, b_as, b_bs, b_bound, b_labelLine, dt, ys, hl, ya, st) → wpY_step post (g_capacity, nI dp, g_assembled, nI c, b_ops, b_as, b_bs, b_bound, b_labelLine, a_data, b_stack, a_held, b_at, a_state) (nI s)) := by
  have : s = 0 ∨ s = 1 := by omega
  rcases this with rfl | rfl
  · obtain ⟨dt, xs, hl, sp, st, ys, ya, h1, h2, h3⟩ := ci_stepS (f_HALT := f_HALT) (f_MOVE := f_MOVE) (f_ADD := f_ADD) (f_SUB := f_SUB) (f_MUL := f_MUL) (f_LOAD := f_LOAD) (f_STORE := f_STORE) (f_CONST := f_CONST) (f_JUMP := f_JUMP) (f_BZ := f_BZ) (f_BN := f_BN) (f_CALL := f_CALL) (f_RET := f_RET) (f_POOL := f_POOL) (f_VENEER := f_VENEER) (f_AROUND := f_AROUND) (f_LITERAL := f_LITERAL) (f_DIRECT := f_DIRECT) (f_WAITING := f_WAITING) (f_CELLS := f_CELLS) (f_JUMP_BITS := f_JUMP_BITS) (f_IMMEDIATE_BITS := f_IMMEDIATE_BITS) (f_FAR := f_FAR) (f_capacity := f_capacity) (f_firstShortBits := f_firstShortBits) (f_firstLoadBits := f_firstLoadBits) (f_literalRuns := f_literalRuns) (f_assembled := f_assembled) (a_lineOp := a_lineOp) (a_lineA := a_lineA) (a_lineB := a_lineB) (a_labels := a_labels) (a_addresses := a_addresses) (a_via := a_via) (a_cells := a_cells) (a_kinds := a_kinds) (a_keys := a_keys) (a_data := a_data) (a_stack := a_stack) (a_held := a_held) (a_spot := a_spot) (a_state := a_state) (g_capacity := g_capacity) (g_assembled := g_assembled) (b_ops := b_ops) (b_as := b_as) (b_bs := b_bs) (b_bound := b_bound) (b_labelLine := b_labelLine) (b_stack := b_stack) (b_at := b_at) (c := c) (sb := sb) (lb := lb) (sz := sz) (dp := dp) hc hd P PY M
    exact ⟨dt, xs, hl, sp, st, ys, ya, h1, fun _ => h2, fun e => absurd e (by omega), h3⟩
  · obtain ⟨dt, xs, hl, sp, st, ys, ya, h1, h2, h3⟩ := ci_stepI (f_HALT := f_HALT) (f_MOVE := f_MOVE) (f_ADD := f_ADD) (f_SUB := f_SUB) (f_MUL := f_MUL) (f_LOAD := f_LOAD) (f_STORE := f_STORE) (f_CONST := f_CONST) (f_JUMP := f_JUMP) (f_BZ := f_BZ) (f_BN := f_BN) (f_CALL := f_CALL) (f_RET := f_RET) (f_POOL := f_POOL) (f_VENEER := f_VENEER) (f_AROUND := f_AROUND) (f_LITERAL := f_LITERAL) (f_DIRECT := f_DIRECT) (f_WAITING := f_WAITING) (f_CELLS := f_CELLS) (f_JUMP_BITS := f_JUMP_BITS) (f_IMMEDIATE_BITS := f_IMMEDIATE_BITS) (f_FAR := f_FAR) (f_capacity := f_capacity) (f_firstShortBits := f_firstShortBits) (f_firstLoadBits := f_firstLoadBits) (f_literalRuns := f_literalRuns) (f_assembled := f_assembled) (a_lineOp := a_lineOp) (a_lineA := a_lineA) (a_lineB := a_lineB) (a_labels := a_labels) (a_addresses := a_addresses) (a_via := a_via) (a_cells := a_cells) (a_kinds := a_kinds) (a_keys := a_keys) (a_data := a_data) (a_stack := a_stack) (a_held := a_held) (a_spot := a_spot) (a_state := a_state) (g_capacity := g_capacity) (g_assembled := g_assembled) (b_ops := b_ops) (b_as := b_as) (b_bs := b_bs) (b_bound := b_bound) (b_labelLine := b_labelLine) (b_stack := b_stack) (b_at := b_at) (c := c) (sb := sb) (lb := lb) (sz := sz) (dp := dp) hc hd P L PY M
    exact ⟨dt, xs, hl, sp, st, ys, ya, h1, fun e => absurd e (by omega), fun _ => h2, h3⟩
end
section
variable {f_HALT f_MOVE f_ADD f_SUB f_MUL f_LOAD f_STORE f_CONST f_JUMP f_BZ f_BN f_CALL f_RET f_POOL f_VENEER f_AROUND f_LITERAL f_DIRECT f_WAITING f_CELLS f_JUMP_BITS f_IMMEDIATE_BITS f_FAR f_capacity f_firstShortBits f_firstLoadBits f_literalRuns f_assembled : Int32} {a_lineOp a_lineA a_lineB a_labels a_addresses a_via a_cells a_kinds a_keys a_data a_stack a_held a_spot a_state : Nat → Int32} {g_capacity g_assembled : Int32} {b_ops b_as b_bs b_bound b_labelLine b_stack b_at : Nat → Int32} {c sb lb sz dp : Nat}
theorem cr_run {s m : Nat} (hs : s < 2) (hm : m ≤ 200) (hc : c ≤ 48) (hd : dp ≤ 8) (P : ci_Prog a_lineOp a_lineA a_lineB a_labels c) (L : ci_Lay a_lineOp a_lineA a_lineB a_labels sb lb c sz a_addresses a_cells a_kinds) (PY : ci_PY a_lineOp a_lineA a_lineB a_labels b_ops b_as b_bs b_bound b_labelLine c) :
    ∀ (d x : Nat) (a_data a_stack a_held a_spot a_state b_stack b_at : Nat → Int32), x + d = m → ci_MR a_lineOp a_addresses c dp a_stack a_held a_spot b_stack b_at →
    ∃ (r : Int32) (dt xs hl sp st ys ya : Nat → Int32), ci_MR a_lineOp a_addresses c dp xs hl sp ys ya ∧ (∀ post : Int32 → SX → Prop, post r (f_HALT, f_MOVE, f_ADD, f_SUB, f_MUL, f_LOAD, f_STORE, f_CONST, f_JUMP, f_BZ, f_BN, f_CALL, f_RET, f_POOL, f_VENEER, f_AROUND, f_LITERAL, f_DIRECT, f_WAITING, f_CELLS, f_JUMP_BITS, f_IMMEDIATE_BITS, f_FAR, f_capacity, nI dp, f_firstShortBits, f_firstLoadBits, nI sb, nI lb, nI c, nI sz, f_literalRuns, f_assembled, a_lineOp, a_lineA, a_lineB, a_labels, a_addresses, a_via, a_cells, a_kinds, a_keys, dt, xs, hl, sp, st) → wX_run_28 post (nI s) (nI m) (d + 1) (nI x) f_HALT f_MOVE f_ADD f_SUB f_MUL f_LOAD f_STORE f_CONST f_JUMP f_BZ f_BN f_CALL f_RET f_POOL f_VENEER f_AROUND f_LITERAL f_DIRECT f_WAITING f_CELLS f_JUMP_BITS f_IMMEDIATE_BITS f_FAR f_capacity (nI dp) f_firstShortBits f_firstLoadBits (nI sb) (nI lb) (nI c) (nI sz) f_literalRuns f_assembled a_lineOp a_lineA a_lineB a_labels a_addresses a_via a_cells a_kinds a_keys a_data a_stack a_held a_spot a_state) ∧ (∀ post : Int32 → SY → Prop, post r (g_capacity, nI dp, g_assembled, nI c, b_ops, b_as, b_bs, b_bound, b_labelLine, dt, ys, hl, ya, st) → wY_run_36 post (nI s) (nI m) (d + 1) (nI x) g_capacity (nI dp) g_assembled (nI c) b_ops b_as b_bs b_bound b_labelLine a_data b_stack a_held b_at a_state) := by
  have es : (nI s).toNatClampNeg = s := nI_clamp (by omega)
  have vs : vp_in (nI s) 2 := vp_in_nI hs (by decide)
  intro d
  induction d with
  | zero =>
    intro x a_data a_stack a_held a_spot a_state b_stack b_at hx M
    have e : x = m := by omega
    subst e
    exact ⟨nI x, a_data, a_stack, a_held, a_spot, a_state, b_stack, b_at, M, fun post h => br_t (nI_le (Nat.le_refl _) (by omega)) h, fun post h => br_t (nI_le (Nat.le_refl _) (by omega)) h⟩
  | succ d ih =>
    intro x a_data a_stack a_held a_spot a_state b_stack b_at hx M
    have hlt : ¬ nI m ≤ nI x := nI_ge (by omega) (by omega)
    by_cases hst : a_state s = 1
    · have hst' : a_state (nI s).toNatClampNeg = 1 := by rw [es]; exact hst
      obtain ⟨dt, xs, hl, sp, st, ys, ya, M1, h0, h1, hY⟩ := cr_step (f_HALT := f_HALT) (f_MOVE := f_MOVE) (f_ADD := f_ADD) (f_SUB := f_SUB) (f_MUL := f_MUL) (f_LOAD := f_LOAD) (f_STORE := f_STORE) (f_CONST := f_CONST) (f_JUMP := f_JUMP) (f_BZ := f_BZ) (f_BN := f_BN) (f_CALL := f_CALL) (f_RET := f_RET) (f_POOL := f_POOL) (f_VENEER := f_VENEER) (f_AROUND := f_AROUND) (f_LITERAL := f_LITERAL) (f_DIRECT := f_DIRECT) (f_WAITING := f_WAITING) (f_CELLS := f_CELLS) (f_JUMP_BITS := f_JUMP_BITS) (f_IMMEDIATE_BITS := f_IMMEDIATE_BITS) (f_FAR := f_FAR) (f_capacity := f_capacity) (f_firstShortBits := f_firstShortBits) (f_firstLoadBits := f_firstLoadBits) (f_literalRuns := f_literalRuns) (f_assembled := f_assembled) (a_lineOp := a_lineOp) (a_lineA := a_lineA) (a_lineB := a_lineB) (a_labels := a_labels) (a_addresses := a_addresses) (a_via := a_via) (a_cells := a_cells) (a_kinds := a_kinds) (a_keys := a_keys) (a_data := a_data) (a_stack := a_stack) (a_held := a_held) (a_spot := a_spot) (a_state := a_state) (g_capacity := g_capacity) (g_assembled := g_assembled) (b_ops := b_ops) (b_as := b_as) (b_bs := b_bs) (b_bound := b_bound) (b_labelLine := b_labelLine) (b_stack := b_stack) (b_at := b_at) (c := c) (sb := sb) (lb := lb) (sz := sz) (dp := dp) hs hc hd P L PY M
      obtain ⟨r, dt2, xs2, hl2, sp2, st2, ys2, ya2, M2, kX, kY⟩ := ih (x + 1) dt xs hl sp st ys ya (by omega) M1
      refine ⟨r, dt2, xs2, hl2, sp2, st2, ys2, ya2, M2, fun post h => ?_, fun post h => ?_⟩
      · refine br_f hlt ⟨vs, br_t hst' ?_⟩
        have : s = 0 ∨ s = 1 := by omega
        rcases this with e | e
        · refine br_t (by rw [e]; rfl) ?_
          refine h0 e _ ?_
          exact nm_r (nI_1 x) (kX post h)
        · refine br_f (by rw [e]; decide) ?_
          refine h1 e _ ?_
          exact nm_r (nI_1 x) (kX post h)
      · refine br_f hlt ⟨vs, br_t hst' ?_⟩
        refine hY _ ?_
        exact nm_r (nI_1 x) (kY post h)
    · have hst' : ¬ a_state (nI s).toNatClampNeg = 1 := by rw [es]; exact hst
      exact ⟨nI x, a_data, a_stack, a_held, a_spot, a_state, b_stack, b_at, M, fun post h => br_f hlt ⟨vs, br_f hst' h⟩, fun post h => br_f hlt ⟨vs, br_f hst' h⟩⟩
end
theorem cr_side {k s : Nat} {v2 : Int32} {f_HALT f_MOVE f_ADD f_SUB f_MUL f_LOAD f_STORE f_CONST f_JUMP f_BZ f_BN f_CALL f_RET f_POOL f_VENEER f_AROUND f_LITERAL f_DIRECT f_WAITING f_CELLS f_JUMP_BITS f_IMMEDIATE_BITS f_FAR f_size f_literalRuns f_assembled : Int32} {a_lineOp a_lineA a_lineB a_labels a_addresses a_via a_cells a_kinds a_keys a_data a_stack a_held a_spot a_state : Nat → Int32} {b_ops b_as b_bs b_bound b_labelLine b_stack b_at : Nat → Int32} {cap dp fs fl sb lb c : Nat} (hs : s < 2) (F1 : ci_F1 cap dp fs fl sb lb c) (F2 : ci_F2 a_lineOp a_lineA a_lineB c) (F3 : ci_PY a_lineOp a_lineA a_lineB a_labels b_ops b_as b_bs b_bound b_labelLine c)
    (F4 : ¬ f_assembled = 0 → ci_As a_lineOp a_lineA a_lineB a_labels a_addresses a_cells a_kinds a_stack a_held a_spot b_stack b_at sb lb c dp f_size f_literalRuns) : wpX_run (fun r u' => wpY_run (fun r' v' => r' = r ∧ i_Rel k u' v') (nI cap, nI dp, f_assembled, nI c, b_ops, b_as, b_bs, b_bound, b_labelLine, a_data, b_stack, a_held, b_at, a_state) (nI s) v2) (f_HALT, f_MOVE, f_ADD, f_SUB, f_MUL, f_LOAD, f_STORE, f_CONST, f_JUMP, f_BZ, f_BN, f_CALL, f_RET, f_POOL, f_VENEER, f_AROUND, f_LITERAL, f_DIRECT, f_WAITING, f_CELLS, f_JUMP_BITS, f_IMMEDIATE_BITS, f_FAR, nI cap, nI dp, nI fs, nI fl, nI sb, nI lb, nI c, f_size, f_literalRuns, f_assembled, a_lineOp, a_lineA, a_lineB, a_labels, a_addresses, a_via, a_cells, a_kinds, a_keys, a_data, a_stack, a_held, a_spot, a_state) (nI s) v2 := by
  have hc : c ≤ 48 := by have := F1.1; have := F1.2.1; omega
  by_cases ha : f_assembled = 0
  · unfold wpX_run
    refine ci_gateOff hs ha (br_f (by decide) ?_)
    exact cy_side hs (br_t ha ⟨rfl, ci_mk F1 F2 F3 F4⟩)
  · unfold wpX_run
    refine ci_gateOn hs ha (br_t rfl ?_)
    by_cases a1 : v2 < 0
    · refine br_t a1 ?_
      exact cy_side hs (br_f ha (br_t a1 ⟨rfl, ci_mk F1 F2 F3 F4⟩))
    · by_cases a2 : v2 ≤ 200
      · obtain ⟨m, hm, rfl⟩ := nI_of2 (M := 200) (n := 200) (by decide) a1 a2
        obtain ⟨sz, rfl, e2, Bd, L, M⟩ := F4 ha
        obtain ⟨r, dt, xs, hl, sp, st, ys, ya, M1, hX, hY⟩ := cr_run (f_HALT := f_HALT) (f_MOVE := f_MOVE) (f_ADD := f_ADD) (f_SUB := f_SUB) (f_MUL := f_MUL) (f_LOAD := f_LOAD) (f_STORE := f_STORE) (f_CONST := f_CONST) (f_JUMP := f_JUMP) (f_BZ := f_BZ) (f_BN := f_BN) (f_CALL := f_CALL) (f_RET := f_RET) (f_POOL := f_POOL) (f_VENEER := f_VENEER) (f_AROUND := f_AROUND) (f_LITERAL := f_LITERAL) (f_DIRECT := f_DIRECT) (f_WAITING := f_WAITING) (f_CELLS := f_CELLS) (f_JUMP_BITS := f_JUMP_BITS) (f_IMMEDIATE_BITS := f_IMMEDIATE_BITS) (f_FAR := f_FAR) (f_capacity := nI cap) (f_firstShortBits := nI fs) (f_firstLoadBits := nI fl) (f_literalRuns := f_literalRuns) (f_assembled := f_assembled) (a_lineOp := a_lineOp) (a_lineA := a_lineA) (a_lineB := a_lineB) (a_labels := a_labels) (a_addresses := a_addresses) (a_via := a_via) (a_cells := a_cells) (a_kinds := a_kinds) (a_keys := a_keys) (g_capacity := nI cap) (g_assembled := f_assembled) (b_ops := b_ops) (b_as := b_as) (b_bs := b_bs) (b_bound := b_bound) (b_labelLine := b_labelLine) (c := c) (sb := sb) (lb := lb) (sz := sz) (dp := dp) hs hm hc F1.2.2.1 (ci_prog F1 F2 Bd) L F3 m 0 a_data a_stack a_held a_spot a_state b_stack b_at (by omega) M
        refine br_f a1 (br_t a2 ⟨m + 1, hX _ ?_⟩)
        refine cy_side hs (br_f ha (br_f a1 (br_t a2 ⟨m + 1, hY _ ⟨rfl, ?_⟩⟩)))
        exact ci_mk F1 F2 F3 (fun _ => ⟨sz, rfl, e2, Bd, L, M1⟩)
      · refine br_f a1 (br_f a2 ?_)
        exact cy_side hs (br_f ha (br_f a1 (br_f a2 ⟨rfl, ci_mk F1 F2 F3 F4⟩)))
theorem i_vc_run {k : Nat} {u : SX} {v : SY} (I : i_Rel k u v) (hk : k + 4 ≤ 2052) (v1 : Int32) (v2 : Int32) : wpX_run (fun r u' => wpY_run (fun r' v' => r' = r ∧ i_Rel (k + 4) u' v') v v1 v2) u v1 v2 := by
  refine ci_el (P := fun u v => wpX_run (fun r u' => wpY_run (fun r' v' => r' = r ∧ i_Rel (k + 4) u' v') v v1 v2) u v1 v2) I ?_
  intro f_HALT f_MOVE f_ADD f_SUB f_MUL f_LOAD f_STORE f_CONST f_JUMP f_BZ f_BN f_CALL f_RET f_POOL f_VENEER f_AROUND f_LITERAL f_DIRECT f_WAITING f_CELLS f_JUMP_BITS f_IMMEDIATE_BITS f_FAR f_size f_literalRuns f_assembled a_lineOp a_lineA a_lineB a_labels a_addresses a_via a_cells a_kinds a_keys a_data a_stack a_held a_spot a_state b_ops b_as b_bs b_bound b_labelLine b_stack b_at cap dp fs fl sb lb c F1 F2 F3 F4
  rcases ci_side v1 with e | e | ⟨bad, n0, n1⟩
  · subst e
    exact cr_side (by omega) F1 F2 F3 F4
  · subst e
    exact cr_side (by omega) F1 F2 F3 F4
  · unfold wpX_run
    refine ci_gateBad bad (br_f (by decide) ?_)
    exact cy_sideBad n0 n1 ⟨rfl, ci_mk F1 F2 F3 F4⟩
end
section
/-! poke, peek, where, status, returnLine -/
theorem i_vc_poke {k : Nat} {u : SX} {v : SY} (I : i_Rel k u v) (hk : k + 4 ≤ 2052) (v1 : Int32) (v2 : Int32) (v3 : Int32) : wpX_poke (fun r u' => wpY_poke (fun r' v' => r' = r ∧ i_Rel (k + 4) u' v') v v1 v2 v3) u v1 v2 v3 := by
  refine ci_el (P := fun u v => wpX_poke (fun r u' => wpY_poke (fun r' v' => r' = r ∧ i_Rel (k + 4) u' v') v v1 v2 v3) u v1 v2 v3) I ?_
  intro f_HALT f_MOVE f_ADD f_SUB f_MUL f_LOAD f_STORE f_CONST f_JUMP f_BZ f_BN f_CALL f_RET f_POOL f_VENEER f_AROUND f_LITERAL f_DIRECT f_WAITING f_CELLS f_JUMP_BITS f_IMMEDIATE_BITS f_FAR f_size f_literalRuns f_assembled a_lineOp a_lineA a_lineB a_labels a_addresses a_via a_cells a_kinds a_keys a_data a_stack a_held a_spot a_state b_ops b_as b_bs b_bound b_labelLine b_stack b_at cap dp fs fl sb lb c F1 F2 F3 F4
  have good : ∀ s : Nat, s < 2 → wpX_poke (fun r u' => wpY_poke (fun r' v' => r' = r ∧ i_Rel (k + 4) u' v') (nI cap, nI dp, f_assembled, nI c, b_ops, b_as, b_bs, b_bound, b_labelLine, a_data, b_stack, a_held, b_at, a_state) (nI s) v2 v3) (f_HALT, f_MOVE, f_ADD, f_SUB, f_MUL, f_LOAD, f_STORE, f_CONST, f_JUMP, f_BZ, f_BN, f_CALL, f_RET, f_POOL, f_VENEER, f_AROUND, f_LITERAL, f_DIRECT, f_WAITING, f_CELLS, f_JUMP_BITS, f_IMMEDIATE_BITS, f_FAR, nI cap, nI dp, nI fs, nI fl, nI sb, nI lb, nI c, f_size, f_literalRuns, f_assembled, a_lineOp, a_lineA, a_lineB, a_labels, a_addresses, a_via, a_cells, a_kinds, a_keys, a_data, a_stack, a_held, a_spot, a_state) (nI s) v2 v3 := by
    intro s hs
    have s0 : ¬ nI s < 0 := nI_pos (by omega)
    have s1 : ¬ 1 < nI s := nI_nlt (b := s) (a := 1) (by omega) (by omega)
    by_cases a1 : v2 < 0
    · exact br_f s0 (br_f s1 (br_t a1 (cy_side hs (br_t a1 ⟨rfl, ci_mk F1 F2 F3 F4⟩))))
    · by_cases a2 : v2 ≤ 23
      · by_cases ha : f_assembled = 0
        · exact br_f s0 (br_f s1 (br_f a1 (br_t a2 (br_t ha (cy_side hs (br_f a1 (br_t a2 (br_t ha ⟨rfl, ci_mk F1 F2 F3 F4⟩))))))))
        · obtain ⟨j, hj, rfl⟩ := nI_of2 (M := 23) (n := 23) (by decide) a1 a2
          have ix : nI s * 24 + nI j = nI (s * 24 + j) := ci_x5
          have ex : (nI (s * 24 + j)).toNatClampNeg = s * 24 + j := nI_clamp (by omega)
          have vx : vp_in (nI s * 24 + nI j) 48 := by rw [ix]; exact vp_in_nI (by omega) (by decide)
          refine br_f s0 (br_f s1 (br_f a1 (br_t a2 (br_f ha ⟨vx, nm_r (e' := upd a_data (s * 24 + j) v3) (by rw [ix, ex]) ?_⟩))))
          refine cy_side hs (br_f a1 (br_t a2 (br_f ha ⟨vx, nm_r (e' := upd a_data (s * 24 + j) v3) (by rw [ix, ex]) ⟨rfl, ?_⟩⟩)))
          exact ci_mk F1 F2 F3 F4
      · exact br_f s0 (br_f s1 (br_f a1 (br_f a2 (cy_side hs (br_f a1 (br_f a2 ⟨rfl, ci_mk F1 F2 F3 F4⟩))))))
  rcases ci_side v1 with e | e | ⟨bad, n0, n1⟩
  · subst e
    exact good 0 (by omega)
  · subst e
    exact good 1 (by omega)
  · have E : wpY_poke (fun r' v' => r' = (-1) ∧ i_Rel (k + 4) (f_HALT, f_MOVE, f_ADD, f_SUB, f_MUL, f_LOAD, f_STORE, f_CONST, f_JUMP, f_BZ, f_BN, f_CALL, f_RET, f_POOL, f_VENEER, f_AROUND, f_LITERAL, f_DIRECT, f_WAITING, f_CELLS, f_JUMP_BITS, f_IMMEDIATE_BITS, f_FAR, nI cap, nI dp, nI fs, nI fl, nI sb, nI lb, nI c, f_size, f_literalRuns, f_assembled, a_lineOp, a_lineA, a_lineB, a_labels, a_addresses, a_via, a_cells, a_kinds, a_keys, a_data, a_stack, a_held, a_spot, a_state) v') (nI cap, nI dp, f_assembled, nI c, b_ops, b_as, b_bs, b_bound, b_labelLine, a_data, b_stack, a_held, b_at, a_state) v1 v2 v3 := cy_sideBad n0 n1 ⟨rfl, ci_mk F1 F2 F3 F4⟩
    rcases bad with bad | bad
    · exact br_t bad E
    · exact br_c (fun _ => E) (fun _ => br_t (Int32.not_le.mp bad) E)
theorem i_vc_peek {k : Nat} {u : SX} {v : SY} (I : i_Rel k u v) (hk : k + 4 ≤ 2052) (v1 : Int32) (v2 : Int32) : wpX_peek (fun r => wpY_peek (fun r' => r' = r ∧ i_Rel (k + 4) u v) v v1 v2) u v1 v2 := by
  refine ci_el (P := fun u v => wpX_peek (fun r => wpY_peek (fun r' => r' = r ∧ i_Rel (k + 4) u v) v v1 v2) u v1 v2) I ?_
  intro f_HALT f_MOVE f_ADD f_SUB f_MUL f_LOAD f_STORE f_CONST f_JUMP f_BZ f_BN f_CALL f_RET f_POOL f_VENEER f_AROUND f_LITERAL f_DIRECT f_WAITING f_CELLS f_JUMP_BITS f_IMMEDIATE_BITS f_FAR f_size f_literalRuns f_assembled a_lineOp a_lineA a_lineB a_labels a_addresses a_via a_cells a_kinds a_keys a_data a_stack a_held a_spot a_state b_ops b_as b_bs b_bound b_labelLine b_stack b_at cap dp fs fl sb lb c F1 F2 F3 F4
  have G : i_Rel (k + 4) (f_HALT, f_MOVE, f_ADD, f_SUB, f_MUL, f_LOAD, f_STORE, f_CONST, f_JUMP, f_BZ, f_BN, f_CALL, f_RET, f_POOL, f_VENEER, f_AROUND, f_LITERAL, f_DIRECT, f_WAITING, f_CELLS, f_JUMP_BITS, f_IMMEDIATE_BITS, f_FAR, nI cap, nI dp, nI fs, nI fl, nI sb, nI lb, nI c, f_size, f_literalRuns, f_assembled, a_lineOp, a_lineA, a_lineB, a_labels, a_addresses, a_via, a_cells, a_kinds, a_keys, a_data, a_stack, a_held, a_spot, a_state) (nI cap, nI dp, f_assembled, nI c, b_ops, b_as, b_bs, b_bound, b_labelLine, a_data, b_stack, a_held, b_at, a_state) := ci_mk F1 F2 F3 F4
  have good : ∀ s : Nat, s < 2 → wpX_peek (fun r => wpY_peek (fun r' => r' = r ∧ i_Rel (k + 4) (f_HALT, f_MOVE, f_ADD, f_SUB, f_MUL, f_LOAD, f_STORE, f_CONST, f_JUMP, f_BZ, f_BN, f_CALL, f_RET, f_POOL, f_VENEER, f_AROUND, f_LITERAL, f_DIRECT, f_WAITING, f_CELLS, f_JUMP_BITS, f_IMMEDIATE_BITS, f_FAR, nI cap, nI dp, nI fs, nI fl, nI sb, nI lb, nI c, f_size, f_literalRuns, f_assembled, a_lineOp, a_lineA, a_lineB, a_labels, a_addresses, a_via, a_cells, a_kinds, a_keys, a_data, a_stack, a_held, a_spot, a_state) (nI cap, nI dp, f_assembled, nI c, b_ops, b_as, b_bs, b_bound, b_labelLine, a_data, b_stack, a_held, b_at, a_state)) (nI cap, nI dp, f_assembled, nI c, b_ops, b_as, b_bs, b_bound, b_labelLine, a_data, b_stack, a_held, b_at, a_state) (nI s) v2) (f_HALT, f_MOVE, f_ADD, f_SUB, f_MUL, f_LOAD, f_STORE, f_CONST, f_JUMP, f_BZ, f_BN, f_CALL, f_RET, f_POOL, f_VENEER, f_AROUND, f_LITERAL, f_DIRECT, f_WAITING, f_CELLS, f_JUMP_BITS, f_IMMEDIATE_BITS, f_FAR, nI cap, nI dp, nI fs, nI fl, nI sb, nI lb, nI c, f_size, f_literalRuns, f_assembled, a_lineOp, a_lineA, a_lineB, a_labels, a_addresses, a_via, a_cells, a_kinds, a_keys, a_data, a_stack, a_held, a_spot, a_state) (nI s) v2 := by
    intro s hs
    have s0 : ¬ nI s < 0 := nI_pos (by omega)
    have s1 : ¬ 1 < nI s := nI_nlt (b := s) (a := 1) (by omega) (by omega)
    by_cases a1 : v2 < 0
    · exact br_f s0 (br_f s1 (br_t a1 (cy_side hs (br_t a1 ⟨rfl, G⟩))))
    · by_cases a2 : 23 < v2
      · exact br_f s0 (br_f s1 (br_f a1 (br_t a2 (cy_side hs (br_f a1 (br_t a2 ⟨rfl, G⟩))))))
      · by_cases ha : f_assembled = 0
        · exact br_f s0 (br_f s1 (br_f a1 (br_f a2 (br_t ha (cy_side hs (br_f a1 (br_f a2 (br_t ha ⟨rfl, G⟩))))))))
        · obtain ⟨j, hj, rfl⟩ := nI_of2 (M := 23) (n := 23) (by decide) a1 (Int32.not_lt.mp a2)
          have ix : nI s * 24 + nI j = nI (s * 24 + j) := ci_x5
          have vx : vp_in (nI s * 24 + nI j) 48 := by rw [ix]; exact vp_in_nI (by omega) (by decide)
          exact br_f s0 (br_f s1 (br_f a1 (br_f a2 (br_f ha ⟨vx, cy_side hs (br_f a1 (br_f a2 (br_f ha ⟨vx, rfl, G⟩)))⟩))))
  rcases ci_side v1 with e | e | ⟨bad, n0, n1⟩
  · subst e
    exact good 0 (by omega)
  · subst e
    exact good 1 (by omega)
  · have E : wpY_peek (fun r' => r' = 0 ∧ i_Rel (k + 4) (f_HALT, f_MOVE, f_ADD, f_SUB, f_MUL, f_LOAD, f_STORE, f_CONST, f_JUMP, f_BZ, f_BN, f_CALL, f_RET, f_POOL, f_VENEER, f_AROUND, f_LITERAL, f_DIRECT, f_WAITING, f_CELLS, f_JUMP_BITS, f_IMMEDIATE_BITS, f_FAR, nI cap, nI dp, nI fs, nI fl, nI sb, nI lb, nI c, f_size, f_literalRuns, f_assembled, a_lineOp, a_lineA, a_lineB, a_labels, a_addresses, a_via, a_cells, a_kinds, a_keys, a_data, a_stack, a_held, a_spot, a_state) (nI cap, nI dp, f_assembled, nI c, b_ops, b_as, b_bs, b_bound, b_labelLine, a_data, b_stack, a_held, b_at, a_state)) (nI cap, nI dp, f_assembled, nI c, b_ops, b_as, b_bs, b_bound, b_labelLine, a_data, b_stack, a_held, b_at, a_state) v1 v2 := cy_sideBad n0 n1 ⟨rfl, G⟩
    rcases bad with bad | bad
    · exact br_t bad E
    · exact br_c (fun _ => E) (fun _ => br_t (Int32.not_le.mp bad) E)
theorem i_vc_where {k : Nat} {u : SX} {v : SY} (I : i_Rel k u v) (hk : k + 4 ≤ 2052) (v1 : Int32) : wpX_where (fun r => wpY_where (fun r' => r' = r ∧ i_Rel (k + 4) u v) v v1) u v1 := by
  refine ci_el (P := fun u v => wpX_where (fun r => wpY_where (fun r' => r' = r ∧ i_Rel (k + 4) u v) v v1) u v1) I ?_
  intro f_HALT f_MOVE f_ADD f_SUB f_MUL f_LOAD f_STORE f_CONST f_JUMP f_BZ f_BN f_CALL f_RET f_POOL f_VENEER f_AROUND f_LITERAL f_DIRECT f_WAITING f_CELLS f_JUMP_BITS f_IMMEDIATE_BITS f_FAR f_size f_literalRuns f_assembled a_lineOp a_lineA a_lineB a_labels a_addresses a_via a_cells a_kinds a_keys a_data a_stack a_held a_spot a_state b_ops b_as b_bs b_bound b_labelLine b_stack b_at cap dp fs fl sb lb c F1 F2 F3 F4
  have G : i_Rel (k + 4) (f_HALT, f_MOVE, f_ADD, f_SUB, f_MUL, f_LOAD, f_STORE, f_CONST, f_JUMP, f_BZ, f_BN, f_CALL, f_RET, f_POOL, f_VENEER, f_AROUND, f_LITERAL, f_DIRECT, f_WAITING, f_CELLS, f_JUMP_BITS, f_IMMEDIATE_BITS, f_FAR, nI cap, nI dp, nI fs, nI fl, nI sb, nI lb, nI c, f_size, f_literalRuns, f_assembled, a_lineOp, a_lineA, a_lineB, a_labels, a_addresses, a_via, a_cells, a_kinds, a_keys, a_data, a_stack, a_held, a_spot, a_state) (nI cap, nI dp, f_assembled, nI c, b_ops, b_as, b_bs, b_bound, b_labelLine, a_data, b_stack, a_held, b_at, a_state) := ci_mk F1 F2 F3 F4
  rcases ci_side v1 with e | e | ⟨bad, n0, n1⟩
  · subst e
    by_cases ha : f_assembled = 0
    · unfold wpX_where
      refine ci_gateOff (by omega) ha (br_f (by decide) ?_)
      exact cy_side (by omega) (br_t ha ⟨rfl, G⟩)
    · obtain ⟨sz, rfl, e2, Bd, L, M⟩ := F4 ha
      obtain ⟨M0, M1, ⟨p, p1, p2, p3⟩, M3⟩ := M
      unfold wpX_where
      refine ci_gateOn (by omega) ha (br_t rfl ?_)
      refine ci_standing0 ?_
      exact cy_side (by omega) (br_f ha ⟨vp_in_nI (by omega) (by decide), p3.trans p2.symm, G⟩)
  · subst e
    by_cases ha : f_assembled = 0
    · unfold wpX_where
      refine ci_gateOff (by omega) ha (br_f (by decide) ?_)
      exact cy_side (by omega) (br_t ha ⟨rfl, G⟩)
    · obtain ⟨sz, rfl, e2, Bd, L, M⟩ := F4 ha
      obtain ⟨M0, M1, M2, ⟨p, p1, p2, p3⟩⟩ := M
      obtain ⟨q, q1, q2, q3⟩ := ci_old L p p1
      unfold wpX_where
      refine ci_gateOn (by omega) ha (br_t rfl ?_)
      refine ci_standing1 L.1 q1 (p3.trans q2) ?_
      exact cy_side (by omega) (br_f ha ⟨vp_in_nI (by omega) (by decide), p2.trans q3.symm, G⟩)
  · unfold wpX_where
    refine ci_gateBad bad (br_f (by decide) ?_)
    exact cy_sideBad n0 n1 ⟨rfl, G⟩
theorem i_vc_status {k : Nat} {u : SX} {v : SY} (I : i_Rel k u v) (hk : k + 4 ≤ 2052) (v1 : Int32) : wpX_status (fun r => wpY_status (fun r' => r' = r ∧ i_Rel (k + 4) u v) v v1) u v1 := by
  refine ci_el (P := fun u v => wpX_status (fun r => wpY_status (fun r' => r' = r ∧ i_Rel (k + 4) u v) v v1) u v1) I ?_
  intro f_HALT f_MOVE f_ADD f_SUB f_MUL f_LOAD f_STORE f_CONST f_JUMP f_BZ f_BN f_CALL f_RET f_POOL f_VENEER f_AROUND f_LITERAL f_DIRECT f_WAITING f_CELLS f_JUMP_BITS f_IMMEDIATE_BITS f_FAR f_size f_literalRuns f_assembled a_lineOp a_lineA a_lineB a_labels a_addresses a_via a_cells a_kinds a_keys a_data a_stack a_held a_spot a_state b_ops b_as b_bs b_bound b_labelLine b_stack b_at cap dp fs fl sb lb c F1 F2 F3 F4
  have G : i_Rel (k + 4) (f_HALT, f_MOVE, f_ADD, f_SUB, f_MUL, f_LOAD, f_STORE, f_CONST, f_JUMP, f_BZ, f_BN, f_CALL, f_RET, f_POOL, f_VENEER, f_AROUND, f_LITERAL, f_DIRECT, f_WAITING, f_CELLS, f_JUMP_BITS, f_IMMEDIATE_BITS, f_FAR, nI cap, nI dp, nI fs, nI fl, nI sb, nI lb, nI c, f_size, f_literalRuns, f_assembled, a_lineOp, a_lineA, a_lineB, a_labels, a_addresses, a_via, a_cells, a_kinds, a_keys, a_data, a_stack, a_held, a_spot, a_state) (nI cap, nI dp, f_assembled, nI c, b_ops, b_as, b_bs, b_bound, b_labelLine, a_data, b_stack, a_held, b_at, a_state) := ci_mk F1 F2 F3 F4
  have good : ∀ s : Nat, s < 2 → wpX_status (fun r => wpY_status (fun r' => r' = r ∧ i_Rel (k + 4) (f_HALT, f_MOVE, f_ADD, f_SUB, f_MUL, f_LOAD, f_STORE, f_CONST, f_JUMP, f_BZ, f_BN, f_CALL, f_RET, f_POOL, f_VENEER, f_AROUND, f_LITERAL, f_DIRECT, f_WAITING, f_CELLS, f_JUMP_BITS, f_IMMEDIATE_BITS, f_FAR, nI cap, nI dp, nI fs, nI fl, nI sb, nI lb, nI c, f_size, f_literalRuns, f_assembled, a_lineOp, a_lineA, a_lineB, a_labels, a_addresses, a_via, a_cells, a_kinds, a_keys, a_data, a_stack, a_held, a_spot, a_state) (nI cap, nI dp, f_assembled, nI c, b_ops, b_as, b_bs, b_bound, b_labelLine, a_data, b_stack, a_held, b_at, a_state)) (nI cap, nI dp, f_assembled, nI c, b_ops, b_as, b_bs, b_bound, b_labelLine, a_data, b_stack, a_held, b_at, a_state) (nI s)) (f_HALT, f_MOVE, f_ADD, f_SUB, f_MUL, f_LOAD, f_STORE, f_CONST, f_JUMP, f_BZ, f_BN, f_CALL, f_RET, f_POOL, f_VENEER, f_AROUND, f_LITERAL, f_DIRECT, f_WAITING, f_CELLS, f_JUMP_BITS, f_IMMEDIATE_BITS, f_FAR, nI cap, nI dp, nI fs, nI fl, nI sb, nI lb, nI c, f_size, f_literalRuns, f_assembled, a_lineOp, a_lineA, a_lineB, a_labels, a_addresses, a_via, a_cells, a_kinds, a_keys, a_data, a_stack, a_held, a_spot, a_state) (nI s) := by
    intro s hs
    have s0 : ¬ nI s < 0 := nI_pos (by omega)
    have s1 : nI s ≤ 1 := nI_le (b := 1) (by omega) (by omega)
    have vs : vp_in (nI s) 2 := vp_in_nI hs (by decide)
    by_cases ha : f_assembled = 0
    · exact br_f s0 (br_t s1 (br_t ha (cy_side hs (br_t ha ⟨rfl, G⟩))))
    · exact br_f s0 (br_t s1 (br_f ha ⟨vs, cy_side hs (br_f ha ⟨vs, rfl, G⟩)⟩))
  rcases ci_side v1 with e | e | ⟨bad, n0, n1⟩
  · subst e
    exact good 0 (by omega)
  · subst e
    exact good 1 (by omega)
  · have E : wpY_status (fun r' => r' = (-1) ∧ i_Rel (k + 4) (f_HALT, f_MOVE, f_ADD, f_SUB, f_MUL, f_LOAD, f_STORE, f_CONST, f_JUMP, f_BZ, f_BN, f_CALL, f_RET, f_POOL, f_VENEER, f_AROUND, f_LITERAL, f_DIRECT, f_WAITING, f_CELLS, f_JUMP_BITS, f_IMMEDIATE_BITS, f_FAR, nI cap, nI dp, nI fs, nI fl, nI sb, nI lb, nI c, f_size, f_literalRuns, f_assembled, a_lineOp, a_lineA, a_lineB, a_labels, a_addresses, a_via, a_cells, a_kinds, a_keys, a_data, a_stack, a_held, a_spot, a_state) (nI cap, nI dp, f_assembled, nI c, b_ops, b_as, b_bs, b_bound, b_labelLine, a_data, b_stack, a_held, b_at, a_state)) (nI cap, nI dp, f_assembled, nI c, b_ops, b_as, b_bs, b_bound, b_labelLine, a_data, b_stack, a_held, b_at, a_state) v1 := cy_sideBad n0 n1 ⟨rfl, G⟩
    rcases bad with bad | bad
    · exact br_t bad E
    · exact br_c (fun _ => E) (fun _ => br_f bad E)
section
variable {f_HALT f_MOVE f_ADD f_SUB f_MUL f_LOAD f_STORE f_CONST f_JUMP f_BZ f_BN f_CALL f_RET f_POOL f_VENEER f_AROUND f_LITERAL f_DIRECT f_WAITING f_CELLS f_JUMP_BITS f_IMMEDIATE_BITS f_FAR f_size f_literalRuns f_assembled : Int32} {a_lineOp a_lineA a_lineB a_labels a_addresses a_via a_cells a_kinds a_keys a_data a_stack a_held a_spot a_state : Nat → Int32} {b_ops b_as b_bs b_bound b_labelLine b_stack b_at : Nat → Int32} {cap dp fs fl sb lb c sz : Nat}
theorem cl_entry0 {post : Int32 → Prop} {j : Nat} (hj : j < 16) (h : post (a_stack j)) : wpX_entryLine post (f_HALT, f_MOVE, f_ADD, f_SUB, f_MUL, f_LOAD, f_STORE, f_CONST, f_JUMP, f_BZ, f_BN, f_CALL, f_RET, f_POOL, f_VENEER, f_AROUND, f_LITERAL, f_DIRECT, f_WAITING, f_CELLS, f_JUMP_BITS, f_IMMEDIATE_BITS, f_FAR, nI cap, nI dp, nI fs, nI fl, nI sb, nI lb, nI c, f_size, f_literalRuns, f_assembled, a_lineOp, a_lineA, a_lineB, a_labels, a_addresses, a_via, a_cells, a_kinds, a_keys, a_data, a_stack, a_held, a_spot, a_state) 0 (nI j) := by
  refine br_t rfl ⟨vp_in_nI hj (by decide), ?_⟩
  rw [nI_clamp (by omega)]
  exact h
theorem cl_entry1 {post : Int32 → Prop} {j l q : Nat} (hz : sz ≤ 192) (hj : j < 8) (e1 : a_stack (8 + j) = a_addresses l + 1) (q1 : q < sz) (q2 : a_addresses l = nI q) (q3 : a_kinds q = nI l) (h : post (nI (l + 1))) : wpX_entryLine post (f_HALT, f_MOVE, f_ADD, f_SUB, f_MUL, f_LOAD, f_STORE, f_CONST, f_JUMP, f_BZ, f_BN, f_CALL, f_RET, f_POOL, f_VENEER, f_AROUND, f_LITERAL, f_DIRECT, f_WAITING, f_CELLS, f_JUMP_BITS, f_IMMEDIATE_BITS, f_FAR, nI cap, nI dp, nI fs, nI fl, nI sb, nI lb, nI c, nI sz, f_literalRuns, f_assembled, a_lineOp, a_lineA, a_lineB, a_labels, a_addresses, a_via, a_cells, a_kinds, a_keys, a_data, a_stack, a_held, a_spot, a_state) 1 (nI j) := by
  have ix : (8 : Int32) + nI j = nI (8 + j) := nI_add 8 j
  unfold wpX_entryLine
  refine br_f (by decide) ?_
  rw [ix, nI_clamp (show 8 + j < 2 ^ 31 by omega), e1, q2, nI_1 q, nI_pred q]
  refine ⟨vp_in_nI (by omega) (by decide), ?_⟩
  refine ci_kindAt hz q1 ?_
  rw [q3, nI_1]
  exact h
end
theorem i_vc_returnLine {k : Nat} {u : SX} {v : SY} (I : i_Rel k u v) (hk : k + 4 ≤ 2052) (v1 : Int32) (v2 : Int32) : wpX_returnLine (fun r => wpY_returnLine (fun r' => r' = r ∧ i_Rel (k + 4) u v) v v1 v2) u v1 v2 := by
  refine ci_el (P := fun u v => wpX_returnLine (fun r => wpY_returnLine (fun r' => r' = r ∧ i_Rel (k + 4) u v) v v1 v2) u v1 v2) I ?_
  intro f_HALT f_MOVE f_ADD f_SUB f_MUL f_LOAD f_STORE f_CONST f_JUMP f_BZ f_BN f_CALL f_RET f_POOL f_VENEER f_AROUND f_LITERAL f_DIRECT f_WAITING f_CELLS f_JUMP_BITS f_IMMEDIATE_BITS f_FAR f_size f_literalRuns f_assembled a_lineOp a_lineA a_lineB a_labels a_addresses a_via a_cells a_kinds a_keys a_data a_stack a_held a_spot a_state b_ops b_as b_bs b_bound b_labelLine b_stack b_at cap dp fs fl sb lb c F1 F2 F3 F4
  have G : i_Rel (k + 4) (f_HALT, f_MOVE, f_ADD, f_SUB, f_MUL, f_LOAD, f_STORE, f_CONST, f_JUMP, f_BZ, f_BN, f_CALL, f_RET, f_POOL, f_VENEER, f_AROUND, f_LITERAL, f_DIRECT, f_WAITING, f_CELLS, f_JUMP_BITS, f_IMMEDIATE_BITS, f_FAR, nI cap, nI dp, nI fs, nI fl, nI sb, nI lb, nI c, f_size, f_literalRuns, f_assembled, a_lineOp, a_lineA, a_lineB, a_labels, a_addresses, a_via, a_cells, a_kinds, a_keys, a_data, a_stack, a_held, a_spot, a_state) (nI cap, nI dp, f_assembled, nI c, b_ops, b_as, b_bs, b_bound, b_labelLine, a_data, b_stack, a_held, b_at, a_state) := ci_mk F1 F2 F3 F4
  have hd := F1.2.2.1
  have off : ∀ s : Nat, s < 2 → f_assembled = 0 → wpX_returnLine (fun r => wpY_returnLine (fun r' => r' = r ∧ i_Rel (k + 4) (f_HALT, f_MOVE, f_ADD, f_SUB, f_MUL, f_LOAD, f_STORE, f_CONST, f_JUMP, f_BZ, f_BN, f_CALL, f_RET, f_POOL, f_VENEER, f_AROUND, f_LITERAL, f_DIRECT, f_WAITING, f_CELLS, f_JUMP_BITS, f_IMMEDIATE_BITS, f_FAR, nI cap, nI dp, nI fs, nI fl, nI sb, nI lb, nI c, f_size, f_literalRuns, f_assembled, a_lineOp, a_lineA, a_lineB, a_labels, a_addresses, a_via, a_cells, a_kinds, a_keys, a_data, a_stack, a_held, a_spot, a_state) (nI cap, nI dp, f_assembled, nI c, b_ops, b_as, b_bs, b_bound, b_labelLine, a_data, b_stack, a_held, b_at, a_state)) (nI cap, nI dp, f_assembled, nI c, b_ops, b_as, b_bs, b_bound, b_labelLine, a_data, b_stack, a_held, b_at, a_state) (nI s) v2) (f_HALT, f_MOVE, f_ADD, f_SUB, f_MUL, f_LOAD, f_STORE, f_CONST, f_JUMP, f_BZ, f_BN, f_CALL, f_RET, f_POOL, f_VENEER, f_AROUND, f_LITERAL, f_DIRECT, f_WAITING, f_CELLS, f_JUMP_BITS, f_IMMEDIATE_BITS, f_FAR, nI cap, nI dp, nI fs, nI fl, nI sb, nI lb, nI c, f_size, f_literalRuns, f_assembled, a_lineOp, a_lineA, a_lineB, a_labels, a_addresses, a_via, a_cells, a_kinds, a_keys, a_data, a_stack, a_held, a_spot, a_state) (nI s) v2 := by
    intro s hs ha
    unfold wpX_returnLine
    refine ci_gateOff hs ha (br_f (by decide) ?_)
    exact cy_side hs (br_t ha ⟨rfl, G⟩)
  have neg : ∀ s : Nat, s < 2 → ¬ f_assembled = 0 → v2 < 0 → wpX_returnLine (fun r => wpY_returnLine (fun r' => r' = r ∧ i_Rel (k + 4) (f_HALT, f_MOVE, f_ADD, f_SUB, f_MUL, f_LOAD, f_STORE, f_CONST, f_JUMP, f_BZ, f_BN, f_CALL, f_RET, f_POOL, f_VENEER, f_AROUND, f_LITERAL, f_DIRECT, f_WAITING, f_CELLS, f_JUMP_BITS, f_IMMEDIATE_BITS, f_FAR, nI cap, nI dp, nI fs, nI fl, nI sb, nI lb, nI c, f_size, f_literalRuns, f_assembled, a_lineOp, a_lineA, a_lineB, a_labels, a_addresses, a_via, a_cells, a_kinds, a_keys, a_data, a_stack, a_held, a_spot, a_state) (nI cap, nI dp, f_assembled, nI c, b_ops, b_as, b_bs, b_bound, b_labelLine, a_data, b_stack, a_held, b_at, a_state)) (nI cap, nI dp, f_assembled, nI c, b_ops, b_as, b_bs, b_bound, b_labelLine, a_data, b_stack, a_held, b_at, a_state) (nI s) v2) (f_HALT, f_MOVE, f_ADD, f_SUB, f_MUL, f_LOAD, f_STORE, f_CONST, f_JUMP, f_BZ, f_BN, f_CALL, f_RET, f_POOL, f_VENEER, f_AROUND, f_LITERAL, f_DIRECT, f_WAITING, f_CELLS, f_JUMP_BITS, f_IMMEDIATE_BITS, f_FAR, nI cap, nI dp, nI fs, nI fl, nI sb, nI lb, nI c, f_size, f_literalRuns, f_assembled, a_lineOp, a_lineA, a_lineB, a_labels, a_addresses, a_via, a_cells, a_kinds, a_keys, a_data, a_stack, a_held, a_spot, a_state) (nI s) v2 := by
    intro s hs ha a1
    unfold wpX_returnLine
    refine ci_gateOn hs ha (br_t rfl (br_t a1 ?_))
    exact cy_side hs (br_f ha (br_t a1 ⟨rfl, G⟩))
  have high : ∀ s h j : Nat, s < 2 → ¬ f_assembled = 0 → v2 = nI j → j < 2147483648 → h ≤ 8 → a_held s = nI h → h ≤ j → wpX_returnLine (fun r => wpY_returnLine (fun r' => r' = r ∧ i_Rel (k + 4) (f_HALT, f_MOVE, f_ADD, f_SUB, f_MUL, f_LOAD, f_STORE, f_CONST, f_JUMP, f_BZ, f_BN, f_CALL, f_RET, f_POOL, f_VENEER, f_AROUND, f_LITERAL, f_DIRECT, f_WAITING, f_CELLS, f_JUMP_BITS, f_IMMEDIATE_BITS, f_FAR, nI cap, nI dp, nI fs, nI fl, nI sb, nI lb, nI c, f_size, f_literalRuns, f_assembled, a_lineOp, a_lineA, a_lineB, a_labels, a_addresses, a_via, a_cells, a_kinds, a_keys, a_data, a_stack, a_held, a_spot, a_state) (nI cap, nI dp, f_assembled, nI c, b_ops, b_as, b_bs, b_bound, b_labelLine, a_data, b_stack, a_held, b_at, a_state)) (nI cap, nI dp, f_assembled, nI c, b_ops, b_as, b_bs, b_bound, b_labelLine, a_data, b_stack, a_held, b_at, a_state) (nI s) v2) (f_HALT, f_MOVE, f_ADD, f_SUB, f_MUL, f_LOAD, f_STORE, f_CONST, f_JUMP, f_BZ, f_BN, f_CALL, f_RET, f_POOL, f_VENEER, f_AROUND, f_LITERAL, f_DIRECT, f_WAITING, f_CELLS, f_JUMP_BITS, f_IMMEDIATE_BITS, f_FAR, nI cap, nI dp, nI fs, nI fl, nI sb, nI lb, nI c, f_size, f_literalRuns, f_assembled, a_lineOp, a_lineA, a_lineB, a_labels, a_addresses, a_via, a_cells, a_kinds, a_keys, a_data, a_stack, a_held, a_spot, a_state) (nI s) v2 := by
    intro s h j hs ha e hj h8 eh hhj
    subst e
    have es : (nI s).toNatClampNeg = s := nI_clamp (by omega)
    have vs : vp_in (nI s) 2 := vp_in_nI hs (by decide)
    have a1 : ¬ nI j < 0 := nI_pos (by omega)
    have lt : ¬ nI j < a_held (nI s).toNatClampNeg := by rw [es, eh]; exact nI_nlt hhj (by omega)
    unfold wpX_returnLine
    refine ci_gateOn hs ha (br_t rfl (br_f a1 ⟨vs, br_f lt ?_⟩))
    exact cy_side hs (br_f ha (br_f a1 ⟨vs, br_f lt ⟨rfl, G⟩⟩))
  rcases ci_side v1 with e | e | ⟨bad, n0, n1⟩
  · subst e
    by_cases ha : f_assembled = 0
    · exact off 0 (by omega) ha
    · by_cases a1 : v2 < 0
      · exact neg 0 (by omega) ha a1
      · obtain ⟨j, hj, e⟩ := nI_of a1
        obtain ⟨sz, rfl, e2, Bd, L, M⟩ := F4 ha
        obtain ⟨h, h1, h2, h3⟩ := M.1
        by_cases hhj : h ≤ j
        · exact high 0 h j (by omega) ha e hj (by omega) h2 hhj
        · subst e
          obtain ⟨l, l1, l2, l3⟩ := h3 (h - 1 - j) (by omega)
          have es : (nI 0).toNatClampNeg = 0 := nI_clamp (by omega)
          have vs : vp_in (nI 0) 2 := vp_in_nI (by omega) (by decide)
          have lt : nI j < a_held (nI 0).toNatClampNeg := by rw [es, h2]; exact nI_lt (by omega) (by omega)
          have ix : a_held (nI 0).toNatClampNeg - 1 - nI j = nI (h - 1 - j) := by
            rw [es, h2, show nI h - 1 = nI (h - 1) from pk_sub (b := 1) (by omega), pk_sub (by omega)]
          have iy : nI 0 * 8 + a_held (nI 0).toNatClampNeg - 1 - nI j = nI (h - 1 - j) := by
            rw [show nI 0 * 8 = nI 0 from by decide, es, h2, nI_add, Nat.zero_add, show nI h - 1 = nI (h - 1) from pk_sub (b := 1) (by omega), pk_sub (by omega)]
          unfold wpX_returnLine
          refine ci_gateOn (by omega) ha (br_t rfl (br_f a1 ⟨vs, br_t lt ⟨vs, ?_⟩⟩))
          rw [ix]
          refine cl_entry0 (by omega) ?_
          refine cy_side (by omega) (br_f ha (br_f a1 ⟨vs, br_t lt ⟨vs, ?_⟩⟩))
          rw [iy]
          refine ⟨vp_in_nI (by omega) (by decide), ?_, G⟩
          rw [nI_clamp (by omega)]
          exact l3.trans l2.symm
  · subst e
    by_cases ha : f_assembled = 0
    · exact off 1 (by omega) ha
    · by_cases a1 : v2 < 0
      · exact neg 1 (by omega) ha a1
      · obtain ⟨j, hj, e⟩ := nI_of a1
        obtain ⟨sz, rfl, e2, Bd, L, M⟩ := F4 ha
        obtain ⟨h, h1, h2, h3⟩ := M.2.1
        by_cases hhj : h ≤ j
        · exact high 1 h j (by omega) ha e hj (by omega) h2 hhj
        · subst e
          obtain ⟨l, l1, l2, l3, l4⟩ := h3 (h - 1 - j) (by omega)
          obtain ⟨q, q1, q2, q3⟩ := ci_old L l (by omega)
          have es : (nI 1).toNatClampNeg = 1 := nI_clamp (by omega)
          have vs : vp_in (nI 1) 2 := vp_in_nI (by omega) (by decide)
          have lt : nI j < a_held (nI 1).toNatClampNeg := by rw [es, h2]; exact nI_lt (by omega) (by omega)
          have ix : a_held (nI 1).toNatClampNeg - 1 - nI j = nI (h - 1 - j) := by
            rw [es, h2, show nI h - 1 = nI (h - 1) from pk_sub (b := 1) (by omega), pk_sub (by omega)]
          have iy : nI 1 * 8 + a_held (nI 1).toNatClampNeg - 1 - nI j = nI (8 + (h - 1 - j)) := by
            rw [show nI 1 * 8 = nI 8 from by decide, es, h2, nI_add, show nI (8 + h) - 1 = nI (8 + h - 1) from pk_sub (b := 1) (by omega), pk_sub (by omega)]
            exact congrArg nI (by omega)
          unfold wpX_returnLine
          refine ci_gateOn (by omega) ha (br_t rfl (br_f a1 ⟨vs, br_t lt ⟨vs, ?_⟩⟩))
          rw [ix]
          refine cl_entry1 L.1 (by omega) l4 q1 q2 q3 ?_
          refine cy_side (by omega) (br_f ha (br_f a1 ⟨vs, br_t lt ⟨vs, ?_⟩⟩))
          rw [iy]
          refine ⟨vp_in_nI (by omega) (by decide), ?_, G⟩
          rw [nI_clamp (by omega)]
          exact l2
  · unfold wpX_returnLine
    refine ci_gateBad bad (br_f (by decide) ?_)
    exact cy_sideBad n0 n1 ⟨rfl, G⟩
end
section
/-! readBack, agree, faults -/
section
variable {f_HALT f_MOVE f_ADD f_SUB f_MUL f_LOAD f_STORE f_CONST f_JUMP f_BZ f_BN f_CALL f_RET f_POOL f_VENEER f_AROUND f_LITERAL f_DIRECT f_WAITING f_CELLS f_JUMP_BITS f_IMMEDIATE_BITS f_FAR f_size f_literalRuns f_assembled : Int32} {a_lineOp a_lineA a_lineB a_labels a_addresses a_via a_cells a_kinds a_keys a_data a_stack a_held a_spot a_state : Nat → Int32} {b_ops b_as b_bs b_bound b_labelLine b_stack b_at : Nat → Int32} {cap dp fs fl sb lb c sz : Nat}
theorem cl_yrb {post : Int32 → Prop} {i : Nat} {f : Int32} (hc : c ≤ 48) (hi : i < c) (F2 : ci_F2 a_lineOp a_lineA a_lineB c) (F3 : ci_PY a_lineOp a_lineA a_lineB a_labels b_ops b_as b_bs b_bound b_labelLine c) (hf0 : ¬ f < 0) (hf2 : f ≤ 2)
    (h0 : f = 0 → post (a_lineOp i)) (h1 : f = 1 → post (a_lineA i)) (h2 : ¬ f = 0 → ¬ f = 1 → ¬ ci_T (a_lineOp i) → post (a_lineB i)) (h3 : ¬ f = 0 → ¬ f = 1 → ci_T (a_lineOp i) → post (ci_key a_labels (a_lineOp i) (a_lineB i))) : wpY_readBack post (nI cap, nI dp, f_assembled, nI c, b_ops, b_as, b_bs, b_bound, b_labelLine, a_data, b_stack, a_held, b_at, a_state) (nI i) f := by
  have ei : (nI i).toNatClampNeg = i := nI_clamp (by omega)
  have vi : vp_in (nI i) 48 := vp_in_nI (by omega) (by decide)
  obtain ⟨y1, y2, y3⟩ := F3.1 i hi
  unfold wpY_readBack
  refine br_f (nI_pos (by omega)) (br_f (nI_ge hi (by omega)) (br_f hf0 (br_t hf2 ?_)))
  rw [ei, y1, y2, y3]
  refine br_c (fun f0 => ⟨vi, h0 f0⟩) (fun f0 => br_c (fun f1 => ⟨vi, h1 f1⟩) (fun f1 => ⟨vi, ?_⟩))
  refine br_c (fun d1 => ⟨vi, h2 f0 f1 (fun t => absurd t.1 (Int32.not_le.mpr d1))⟩) (fun d1 => ⟨vi, br_c (fun d2 => ⟨vi, ?_⟩) (fun d2 => ⟨vi, h2 f0 f1 (fun t => absurd t.2 d2)⟩)⟩)
  have t : ci_T (a_lineOp i) := ⟨Int32.not_lt.mp d1, d2⟩
  obtain ⟨m, hm, em⟩ := (F2.1 i (by omega)).2.2.2 t
  have e15 : a_lineB i &&& 15 = nI m := by
    rw [em, pk_andN (by omega) 4 (by decide)]
    exact congrArg nI (by omega)
  have k3 := h3 f0 f1 t
  rw [ci_keyT t, em, ci_lolN hm] at k3
  refine nm_r e15 ⟨vp_in_nI hm (by decide), ?_⟩
  rw [nI_clamp (by omega)]
  rcases F3.2 m hm with ⟨q1, q2⟩ | ⟨q1, q2, _⟩
  · rw [q1] at k3
    exact br_t q2 k3
  · rw [q2] at k3
    exact br_f q1 ⟨vp_in_nI hm (by decide), k3⟩
end
theorem ci_f2 {f : Int32} (h0 : ¬ f < 0) (h2 : f ≤ 2) (n0 : ¬ f = 0) (n1 : ¬ f = 1) : 2 ≤ f := by
  obtain ⟨n, hn, rfl⟩ := nI_of2 (M := 2) (n := 2) (by decide) h0 h2
  have : n = 0 ∨ n = 1 ∨ n = 2 := by omega
  rcases this with rfl | rfl | rfl
  · exact absurd rfl n0
  · exact absurd rfl n1
  · decide
theorem ci_f1 {f : Int32} (h0 : ¬ f < 0) (n2 : ¬ 2 ≤ f) (n0 : ¬ f = 0) : f = 1 := by
  apply Classical.byContradiction
  intro n1
  apply n2
  by_cases h2 : f ≤ 2
  · exact ci_f2 h0 h2 n0 n1
  · exact Int32.le_of_lt (Int32.not_le.mp h2)
theorem i_vc_readBack {k : Nat} {u : SX} {v : SY} (I : i_Rel k u v) (hk : k + 4 ≤ 2052) (v1 : Int32) (v2 : Int32) : wpX_readBack (fun r => wpY_readBack (fun r' => r' = r ∧ i_Rel (k + 4) u v) v v1 v2) u v1 v2 := by
  refine ci_el (P := fun u v => wpX_readBack (fun r => wpY_readBack (fun r' => r' = r ∧ i_Rel (k + 4) u v) v v1 v2) u v1 v2) I ?_
  intro f_HALT f_MOVE f_ADD f_SUB f_MUL f_LOAD f_STORE f_CONST f_JUMP f_BZ f_BN f_CALL f_RET f_POOL f_VENEER f_AROUND f_LITERAL f_DIRECT f_WAITING f_CELLS f_JUMP_BITS f_IMMEDIATE_BITS f_FAR f_size f_literalRuns f_assembled a_lineOp a_lineA a_lineB a_labels a_addresses a_via a_cells a_kinds a_keys a_data a_stack a_held a_spot a_state b_ops b_as b_bs b_bound b_labelLine b_stack b_at cap dp fs fl sb lb c F1 F2 F3 F4
  have G : i_Rel (k + 4) (f_HALT, f_MOVE, f_ADD, f_SUB, f_MUL, f_LOAD, f_STORE, f_CONST, f_JUMP, f_BZ, f_BN, f_CALL, f_RET, f_POOL, f_VENEER, f_AROUND, f_LITERAL, f_DIRECT, f_WAITING, f_CELLS, f_JUMP_BITS, f_IMMEDIATE_BITS, f_FAR, nI cap, nI dp, nI fs, nI fl, nI sb, nI lb, nI c, f_size, f_literalRuns, f_assembled, a_lineOp, a_lineA, a_lineB, a_labels, a_addresses, a_via, a_cells, a_kinds, a_keys, a_data, a_stack, a_held, a_spot, a_state) (nI cap, nI dp, f_assembled, nI c, b_ops, b_as, b_bs, b_bound, b_labelLine, a_data, b_stack, a_held, b_at, a_state) := ci_mk F1 F2 F3 F4
  have hc : c ≤ 48 := by have := F1.1; have := F1.2.1; omega
  by_cases a1 : v1 < 0
  · exact br_t a1 (br_t a1 ⟨rfl, G⟩)
  · obtain ⟨i, hi, rfl⟩ := nI_of a1
    by_cases a2 : c ≤ i
    · exact br_f a1 (br_t (nI_le a2 hi) (br_f a1 (br_t (nI_le a2 hi) ⟨rfl, G⟩)))
    · have b2 : ¬ nI c ≤ nI i := nI_ge (by omega) (by omega)
      by_cases a3 : v2 < 0
      · exact br_f a1 (br_f b2 (br_t a3 (br_f a1 (br_f b2 (br_t a3 ⟨rfl, G⟩)))))
      · by_cases a4 : v2 ≤ 2
        · by_cases ha : f_assembled = 0
          · refine br_f a1 (br_f b2 (br_f a3 (br_t a4 (br_t ha ?_))))
            refine ci_sourceField (by omega) (fun f0 => ?_) (fun n2 f0 => ?_) (fun h2 nt => ?_) (fun h2 t => ?_)
            · exact cl_yrb hc (by omega) F2 F3 a3 a4 (fun _ => ⟨rfl, G⟩) (fun f1 => absurd (f0.symm.trans f1) (by decide)) (fun n => absurd f0 n) (fun n => absurd f0 n)
            · have f1 : v2 = 1 := ci_f1 a3 n2 f0
              exact cl_yrb hc (by omega) F2 F3 a3 a4 (fun f => absurd f f0) (fun _ => ⟨rfl, G⟩) (fun _ n => absurd f1 n) (fun _ n => absurd f1 n)
            · exact cl_yrb hc (by omega) F2 F3 a3 a4 (fun f => absurd h2 (by rw [f]; decide)) (fun f => absurd h2 (by rw [f]; decide)) (fun _ _ _ => ⟨rfl, G⟩) (fun _ _ t => absurd t nt)
            · exact cl_yrb hc (by omega) F2 F3 a3 a4 (fun f => absurd h2 (by rw [f]; decide)) (fun f => absurd h2 (by rw [f]; decide)) (fun _ _ nt => absurd t nt) (fun _ _ _ => ⟨rfl, G⟩)
          · obtain ⟨sz, rfl, e2, Bd, L, M⟩ := F4 ha
            refine br_f a1 (br_f b2 (br_f a3 (br_t a4 (br_f ha ?_))))
            have n13 : ¬ a_lineOp i = 13 := by
              obtain ⟨⟨o, ho, eo⟩, _⟩ := F2.1 i (by omega)
              rw [eo]
              exact ci_o13 ho
            refine ci_imageField L hc (by omega) n13 (fun f0 => ?_) (fun f1 => ?_) (fun f0 f1 nt => ?_) (fun g f0 f1 t hg => ?_)
            · exact cl_yrb hc (by omega) F2 F3 a3 a4 (fun _ => ⟨rfl, G⟩) (fun f1 => absurd (f0.symm.trans f1) (by decide)) (fun n => absurd f0 n) (fun n => absurd f0 n)
            · exact cl_yrb hc (by omega) F2 F3 a3 a4 (fun f0 => absurd (f0.symm.trans f1) (by decide)) (fun _ => ⟨rfl, G⟩) (fun _ n => absurd f1 n) (fun _ n => absurd f1 n)
            · exact cl_yrb hc (by omega) F2 F3 a3 a4 (fun f => absurd f f0) (fun f => absurd f f1) (fun _ _ _ => ⟨rfl, G⟩) (fun _ _ t => absurd t nt)
            · exact cl_yrb hc (by omega) F2 F3 a3 a4 (fun f => absurd f f0) (fun f => absurd f f1) (fun _ _ nt => absurd t nt) (fun _ _ _ => ⟨hg, G⟩)
        · exact br_f a1 (br_f b2 (br_f a3 (br_f a4 (br_f a1 (br_f b2 (br_f a3 (br_f a4 ⟨rfl, G⟩)))))))
/-- both sides agree, in the reference's terms -/
def ci_AG (d st hl yat yst : Nat → Int32) (h : Nat) : Prop := (∀ i, i < 24 → d i = d (24 + i)) ∧ yat 0 = yat 1 ∧ st 0 = st 1 ∧ hl 0 = hl 1 ∧ ∀ j, j < h → yst j = yst (8 + j)
section
variable {f_HALT f_MOVE f_ADD f_SUB f_MUL f_LOAD f_STORE f_CONST f_JUMP f_BZ f_BN f_CALL f_RET f_POOL f_VENEER f_AROUND f_LITERAL f_DIRECT f_WAITING f_CELLS f_JUMP_BITS f_IMMEDIATE_BITS f_FAR f_size f_literalRuns f_assembled : Int32} {a_lineOp a_lineA a_lineB a_labels a_addresses a_via a_cells a_kinds a_keys a_data a_stack a_held a_spot a_state : Nat → Int32} {b_ops b_as b_bs b_bound b_labelLine b_stack b_at : Nat → Int32} {cap dp fs fl sb lb c sz h : Nat}
theorem ca_x93 {post : Int32 → Prop} (hc : c ≤ 48) (hz : sz ≤ 192) (h8 : h ≤ 8) (eh : a_held 0 = nI h)
    (K0 : ∀ j, j < h → ∃ l, l ≤ c ∧ a_stack j = nI l ∧ b_stack j = nI l) (K1 : ∀ j, j < h → ∃ l q, b_stack (8 + j) = nI (l + 1) ∧ a_stack (8 + j) = a_addresses l + 1 ∧ q < sz ∧ a_addresses l = nI q ∧ a_kinds q = nI l)
    (hy : (∀ j, j < h → b_stack j = b_stack (8 + j)) → post 1) (hn : ¬ (∀ j, j < h → b_stack j = b_stack (8 + j)) → post 0) :
    ∀ n x : Nat, h < n + x → x ≤ h → (∀ j, j < x → b_stack j = b_stack (8 + j)) → wX_agree_93 post f_HALT f_MOVE f_ADD f_SUB f_MUL f_LOAD f_STORE f_CONST f_JUMP f_BZ f_BN f_CALL f_RET f_POOL f_VENEER f_AROUND f_LITERAL f_DIRECT f_WAITING f_CELLS f_JUMP_BITS f_IMMEDIATE_BITS f_FAR (nI cap) (nI dp) (nI fs) (nI fl) (nI sb) (nI lb) (nI c) (nI sz) f_literalRuns f_assembled a_lineOp a_lineA a_lineB a_labels a_addresses a_via a_cells a_kinds a_keys a_data a_stack a_held a_spot a_state n (nI x) := by
  intro n
  induction n with
  | zero => intro x h1 h2; omega
  | succ n ih =>
    intro x hnx hx V
    by_cases hxh : h ≤ x
    · exact br_t (by rw [eh]; exact nI_le hxh (by omega)) (hy (fun j hj => V j (by omega)))
    · obtain ⟨l, l1, l2, l3⟩ := K0 x (by omega)
      obtain ⟨l', q, r1, r2, r3, r4, r5⟩ := K1 x (by omega)
      refine br_f (by rw [eh]; exact nI_ge (by omega) (by omega)) ?_
      refine cl_entry0 (by omega) ?_
      refine cl_entry1 hz (by omega) r2 r3 r4 r5 ?_
      rw [l2, ← l3, ← r1]
      refine br_c (fun e => nm_r (nI_1 x) (ih (x + 1) (by omega) (by omega) (fun j hj => ?_))) (fun ne => hn (fun z => ne (z x (by omega))))
      by_cases e2 : j = x
      · subst e2; exact e
      · exact V j (by omega)
theorem ca_x {post : Int32 → Prop} (hc : c ≤ 48) (hd : dp ≤ 8) (ha : ¬ f_assembled = 0) (L : ci_Lay a_lineOp a_lineA a_lineB a_labels sb lb c sz a_addresses a_cells a_kinds) (M : ci_MR a_lineOp a_addresses c dp a_stack a_held a_spot b_stack b_at) (eh : a_held 0 = nI h) (hh8 : h ≤ 8)
    (hy : ci_AG a_data a_state a_held b_at b_stack h → post 1) (hn : ¬ ci_AG a_data a_state a_held b_at b_stack h → post 0) : wpX_agree post (f_HALT, f_MOVE, f_ADD, f_SUB, f_MUL, f_LOAD, f_STORE, f_CONST, f_JUMP, f_BZ, f_BN, f_CALL, f_RET, f_POOL, f_VENEER, f_AROUND, f_LITERAL, f_DIRECT, f_WAITING, f_CELLS, f_JUMP_BITS, f_IMMEDIATE_BITS, f_FAR, nI cap, nI dp, nI fs, nI fl, nI sb, nI lb, nI c, nI sz, f_literalRuns, f_assembled, a_lineOp, a_lineA, a_lineB, a_labels, a_addresses, a_via, a_cells, a_kinds, a_keys, a_data, a_stack, a_held, a_spot, a_state) := by
  obtain ⟨⟨h0, h01, h02, h03⟩, ⟨h1, h11, h12, h13⟩, ⟨p0, p01, p02, p03⟩, ⟨p1, p11, p12, p13⟩⟩ := M
  have e0 : h0 = h := (nI_eq (by omega) (by omega)).mp (h02.symm.trans eh)
  subst e0
  obtain ⟨q, q1, q2, q3⟩ := ci_old L p1 p11
  have K : ∀ n x : Nat, 24 < n + x → x ≤ 24 → (∀ i, i < x → a_data i = a_data (24 + i)) → wX_agree_12 post f_HALT f_MOVE f_ADD f_SUB f_MUL f_LOAD f_STORE f_CONST f_JUMP f_BZ f_BN f_CALL f_RET f_POOL f_VENEER f_AROUND f_LITERAL f_DIRECT f_WAITING f_CELLS f_JUMP_BITS f_IMMEDIATE_BITS f_FAR (nI cap) (nI dp) (nI fs) (nI fl) (nI sb) (nI lb) (nI c) (nI sz) f_literalRuns f_assembled a_lineOp a_lineA a_lineB a_labels a_addresses a_via a_cells a_kinds a_keys a_data a_stack a_held a_spot a_state n (nI x) := by
    intro n
    induction n with
    | zero => intro x h1 h2; omega
    | succ n ih =>
      intro x hnx hx V
      by_cases hx9 : 24 ≤ x
      · refine br_t (nI_le (a := 24) hx9 (by omega)) ?_
        refine ci_standing0 ?_
        refine ci_standing1 L.1 q1 (p13.trans q2) ?_
        rw [q3, p02, ← p03, ← p12]
        refine br_c (fun c1 => br_c (fun c2 => br_c (fun c3 => ?_) (fun c3 => hn (fun z => c3 z.2.2.2.1))) (fun c2 => hn (fun z => c2 z.2.2.1))) (fun c1 => hn (fun z => c1 z.2.1))
        have e1 : h1 = h0 := (nI_eq (by omega) (by omega)).mp (h12.symm.trans (c3.symm.trans h02))
        subst e1
        refine ⟨h1 + 1, ca_x93 hc L.1 (by omega) h02 h03 (fun j hj => ?_) (fun z => hy ⟨fun i hi => V i (by omega), c1, c2, c3, z⟩) (fun nz => hn (fun z => nz z.2.2.2.2)) (h1 + 1) 0 (by omega) (by omega) (fun j hj => absurd hj (by omega))⟩
        obtain ⟨l, l1, l2, l3, l4⟩ := h13 j hj
        obtain ⟨q, q1, q2, q3⟩ := ci_old L l (by omega)
        exact ⟨l, q, l2, l4, q1, q2, q3⟩
      · have ix : (24 : Int32) + nI x = nI (24 + x) := nI_add 24 x
        have ex : (nI x).toNatClampNeg = x := nI_clamp (by omega)
        have ey : (nI (24 + x)).toNatClampNeg = 24 + x := nI_clamp (by omega)
        refine br_f (nI_ge (b := 24) (by omega) (by omega)) ?_
        rw [ix, ex, ey]
        refine ⟨vp_in_nI (by omega) (by decide), vp_in_nI (by omega) (by decide), br_c (fun e => nm_r (nI_1 x) (ih (x + 1) (by omega) (by omega) (fun i hi => ?_))) (fun ne => hn (fun z => ne (z.1 x (by omega))))⟩
        by_cases e2 : i = x
        · subst e2; exact e
        · exact V i (by omega)
  exact br_f ha ⟨25, K 25 0 (by omega) (by omega) (fun i hi => absurd hi (by omega))⟩
theorem ca_y {post : Int32 → Prop} (ha : ¬ f_assembled = 0) (eh : a_held 0 = nI h) (hh8 : h ≤ 8)
    (hy : ci_AG a_data a_state a_held b_at b_stack h → post 1) (hn : ¬ ci_AG a_data a_state a_held b_at b_stack h → post 0) : wpY_agree post (nI cap, nI dp, f_assembled, nI c, b_ops, b_as, b_bs, b_bound, b_labelLine, a_data, b_stack, a_held, b_at, a_state) := by
  refine br_f ha (br_c (fun c1 => br_c (fun c2 => br_c (fun c3 => ?_) (fun c3 => hn (fun z => c3 z.2.2.2.1))) (fun c2 => hn (fun z => c2 z.2.2.1))) (fun c1 => hn (fun z => c1 z.2.1)))
  have K93 : (∀ i, i < 24 → a_data i = a_data (24 + i)) → ∀ n x : Nat, h < n + x → x ≤ h → (∀ j, j < x → b_stack j = b_stack (8 + j)) → wY_agree_93 post (nI cap) (nI dp) f_assembled (nI c) b_ops b_as b_bs b_bound b_labelLine a_data b_stack a_held b_at a_state n (nI x) := by
    intro D n
    induction n with
    | zero => intro x h1 h2; omega
    | succ n ih =>
      intro x hnx hx V
      by_cases hxh : h ≤ x
      · exact br_t (by rw [eh]; exact nI_le hxh (by omega)) (hy ⟨D, c1, c2, c3, fun j hj => V j (by omega)⟩)
      · have ix : (8 : Int32) + nI x = nI (8 + x) := nI_add 8 x
        have ex : (nI x).toNatClampNeg = x := nI_clamp (by omega)
        have ey : (nI (8 + x)).toNatClampNeg = 8 + x := nI_clamp (by omega)
        refine br_f (by rw [eh]; exact nI_ge (by omega) (by omega)) (br_f (nI_ge (b := 8) (by omega) (by omega)) ?_)
        rw [ix, ex, ey]
        refine ⟨vp_in_nI (by omega) (by decide), vp_in_nI (by omega) (by decide), br_c (fun e => nm_r (nI_1 x) (ih (x + 1) (by omega) (by omega) (fun j hj => ?_))) (fun ne => hn (fun z => ne (z.2.2.2.2 x (by omega))))⟩
        by_cases e2 : j = x
        · subst e2; exact e
        · exact V j (by omega)
  have K : ∀ n x : Nat, 24 < n + x → x ≤ 24 → (∀ i, i < x → a_data i = a_data (24 + i)) → wY_agree_59 post (nI cap) (nI dp) f_assembled (nI c) b_ops b_as b_bs b_bound b_labelLine a_data b_stack a_held b_at a_state n (nI x) := by
    intro n
    induction n with
    | zero => intro x h1 h2; omega
    | succ n ih =>
      intro x hnx hx V
      by_cases hx9 : 24 ≤ x
      · exact br_t (nI_le (a := 24) hx9 (by omega)) ⟨h + 1, K93 (fun i hi => V i (by omega)) (h + 1) 0 (by omega) (by omega) (fun j hj => absurd hj (by omega))⟩
      · have ix : (24 : Int32) + nI x = nI (24 + x) := nI_add 24 x
        have ex : (nI x).toNatClampNeg = x := nI_clamp (by omega)
        have ey : (nI (24 + x)).toNatClampNeg = 24 + x := nI_clamp (by omega)
        refine br_f (nI_ge (b := 24) (by omega) (by omega)) ?_
        rw [ix, ex, ey]
        refine ⟨vp_in_nI (by omega) (by decide), vp_in_nI (by omega) (by decide), br_c (fun e => nm_r (nI_1 x) (ih (x + 1) (by omega) (by omega) (fun i hi => ?_))) (fun ne => hn (fun z => ne (z.1 x (by omega))))⟩
        by_cases e2 : i = x
        · subst e2; exact e
        · exact V i (by omega)
  exact ⟨25, K 25 0 (by omega) (by omega) (fun i hi => absurd hi (by omega))⟩
theorem cf_30 {post : Int32 → Prop} {J : Int32 → Int32 → Prop} {i : Nat} (hc : c ≤ 48) (hi : i ≤ c) (n13 : ¬ a_lineOp i = 13) (L : ci_Lay a_lineOp a_lineA a_lineB a_labels sb lb c sz a_addresses a_cells a_kinds) (hJ : J 0 (nI (i + 1))) :
    ∀ n x : Nat, 3 < n + x → x ≤ 3 → wX_faults_30 post J 0 (nI i) f_HALT f_MOVE f_ADD f_SUB f_MUL f_LOAD f_STORE f_CONST f_JUMP f_BZ f_BN f_CALL f_RET f_POOL f_VENEER f_AROUND f_LITERAL f_DIRECT f_WAITING f_CELLS f_JUMP_BITS f_IMMEDIATE_BITS f_FAR (nI cap) (nI dp) (nI fs) (nI fl) (nI sb) (nI lb) (nI c) (nI sz) f_literalRuns f_assembled a_lineOp a_lineA a_lineB a_labels a_addresses a_via a_cells a_kinds a_keys a_data a_stack a_held a_spot a_state n 1 (nI x) := by
  intro n
  induction n with
  | zero => intro x h1 h2; omega
  | succ n ih =>
    intro x hnx hx
    by_cases hx3 : x = 3
    · subst hx3
      exact br_t (by decide) (br_f (by decide) (nm_r (nI_1 i) hJ))
    · have N : ∀ y : Int32, y = nI x + 1 → wX_faults_30 post J 0 (nI i) f_HALT f_MOVE f_ADD f_SUB f_MUL f_LOAD f_STORE f_CONST f_JUMP f_BZ f_BN f_CALL f_RET f_POOL f_VENEER f_AROUND f_LITERAL f_DIRECT f_WAITING f_CELLS f_JUMP_BITS f_IMMEDIATE_BITS f_FAR (nI cap) (nI dp) (nI fs) (nI fl) (nI sb) (nI lb) (nI c) (nI sz) f_literalRuns f_assembled a_lineOp a_lineA a_lineB a_labels a_addresses a_via a_cells a_kinds a_keys a_data a_stack a_held a_spot a_state n 1 y := fun y ey => by
        rw [ey, nI_1]
        exact ih (x + 1) (by omega) (by omega)
      refine br_f (nI_ge (b := 3) (by omega) (by omega)) ?_
      have x0 : ¬ nI x < 0 := nI_pos (by omega)
      have x2 : nI x ≤ 2 := nI_le (b := 2) (by omega) (by omega)
      refine ci_imageField L hc hi n13 (fun f0 => ?_) (fun f1 => ?_) (fun f0 f1 nt => ?_) (fun g f0 f1 t hg => ?_)
      · refine ci_sourceField (by omega) (fun _ => br_t rfl N) (fun _ n => absurd f0 n) (fun h2 => absurd h2 (by rw [f0]; decide)) (fun h2 => absurd h2 (by rw [f0]; decide))
      · refine ci_sourceField (by omega) (fun f0 => absurd (f0.symm.trans f1) (by decide)) (fun _ _ => br_t rfl N) (fun h2 => absurd h2 (by rw [f1]; decide)) (fun h2 => absurd h2 (by rw [f1]; decide))
      · refine ci_sourceField (by omega) (fun f => absurd f f0) (fun n2 _ => absurd (ci_f2 x0 x2 f0 f1) n2) (fun _ _ => br_t rfl N) (fun _ t => absurd t nt)
      · refine ci_sourceField (by omega) (fun f => absurd f f0) (fun n2 _ => absurd (ci_f2 x0 x2 f0 f1) n2) (fun _ nt => absurd t nt) (fun _ _ => br_t hg.symm N)
theorem cf_17 {post : Int32 → Prop} (hc : c ≤ 48) (n13 : ∀ i, i ≤ c → ¬ a_lineOp i = 13) (L : ci_Lay a_lineOp a_lineA a_lineB a_labels sb lb c sz a_addresses a_cells a_kinds) (h0 : post 0) :
    ∀ n x : Nat, c + 1 < n + x → x ≤ c + 1 → wX_faults_17 post f_HALT f_MOVE f_ADD f_SUB f_MUL f_LOAD f_STORE f_CONST f_JUMP f_BZ f_BN f_CALL f_RET f_POOL f_VENEER f_AROUND f_LITERAL f_DIRECT f_WAITING f_CELLS f_JUMP_BITS f_IMMEDIATE_BITS f_FAR (nI cap) (nI dp) (nI fs) (nI fl) (nI sb) (nI lb) (nI c) (nI sz) f_literalRuns f_assembled a_lineOp a_lineA a_lineB a_labels a_addresses a_via a_cells a_kinds a_keys a_data a_stack a_held a_spot a_state n 0 (nI x) := by
  intro n
  induction n with
  | zero => intro x h1 h2; omega
  | succ n ih =>
    intro x hnx hx
    by_cases hxc : c < x
    · exact br_t (nI_lt hxc (by omega)) h0
    · exact br_f (nI_nlt (by omega) (by omega)) ⟨4, cf_30 hc (by omega) (n13 x (by omega)) L (ih (x + 1) (by omega) (by omega)) 4 0 (by omega) (by omega)⟩
end
theorem i_vc_agree {k : Nat} {u : SX} {v : SY} (I : i_Rel k u v) (hk : k + 4 ≤ 2052) : wpX_agree (fun r => wpY_agree (fun r' => r' = r ∧ i_Rel (k + 4) u v) v) u := by
  refine ci_el (P := fun u v => wpX_agree (fun r => wpY_agree (fun r' => r' = r ∧ i_Rel (k + 4) u v) v) u) I ?_
  intro f_HALT f_MOVE f_ADD f_SUB f_MUL f_LOAD f_STORE f_CONST f_JUMP f_BZ f_BN f_CALL f_RET f_POOL f_VENEER f_AROUND f_LITERAL f_DIRECT f_WAITING f_CELLS f_JUMP_BITS f_IMMEDIATE_BITS f_FAR f_size f_literalRuns f_assembled a_lineOp a_lineA a_lineB a_labels a_addresses a_via a_cells a_kinds a_keys a_data a_stack a_held a_spot a_state b_ops b_as b_bs b_bound b_labelLine b_stack b_at cap dp fs fl sb lb c F1 F2 F3 F4
  have G : i_Rel (k + 4) (f_HALT, f_MOVE, f_ADD, f_SUB, f_MUL, f_LOAD, f_STORE, f_CONST, f_JUMP, f_BZ, f_BN, f_CALL, f_RET, f_POOL, f_VENEER, f_AROUND, f_LITERAL, f_DIRECT, f_WAITING, f_CELLS, f_JUMP_BITS, f_IMMEDIATE_BITS, f_FAR, nI cap, nI dp, nI fs, nI fl, nI sb, nI lb, nI c, f_size, f_literalRuns, f_assembled, a_lineOp, a_lineA, a_lineB, a_labels, a_addresses, a_via, a_cells, a_kinds, a_keys, a_data, a_stack, a_held, a_spot, a_state) (nI cap, nI dp, f_assembled, nI c, b_ops, b_as, b_bs, b_bound, b_labelLine, a_data, b_stack, a_held, b_at, a_state) := ci_mk F1 F2 F3 F4
  have hc : c ≤ 48 := by have := F1.1; have := F1.2.1; omega
  have hd := F1.2.2.1
  by_cases ha : f_assembled = 0
  · exact br_t ha (br_t ha ⟨rfl, G⟩)
  · obtain ⟨sz, rfl, e2, Bd, L, M⟩ := F4 ha
    obtain ⟨h, h1, h2, h3⟩ := M.1
    refine ca_x hc hd ha L M h2 (by omega) (fun ag => ?_) (fun nag => ?_)
    · exact ca_y ha h2 (by omega) (fun _ => ⟨rfl, G⟩) (fun n => absurd ag n)
    · exact ca_y ha h2 (by omega) (fun ag => absurd ag nag) (fun _ => ⟨rfl, G⟩)
theorem i_vc_faults {k : Nat} {u : SX} {v : SY} (I : i_Rel k u v) (hk : k + 4 ≤ 2052) : wpX_faults (fun r => wpY_faults (fun r' => r' = r ∧ i_Rel (k + 4) u v) v) u := by
  refine ci_el (P := fun u v => wpX_faults (fun r => wpY_faults (fun r' => r' = r ∧ i_Rel (k + 4) u v) v) u) I ?_
  intro f_HALT f_MOVE f_ADD f_SUB f_MUL f_LOAD f_STORE f_CONST f_JUMP f_BZ f_BN f_CALL f_RET f_POOL f_VENEER f_AROUND f_LITERAL f_DIRECT f_WAITING f_CELLS f_JUMP_BITS f_IMMEDIATE_BITS f_FAR f_size f_literalRuns f_assembled a_lineOp a_lineA a_lineB a_labels a_addresses a_via a_cells a_kinds a_keys a_data a_stack a_held a_spot a_state b_ops b_as b_bs b_bound b_labelLine b_stack b_at cap dp fs fl sb lb c F1 F2 F3 F4
  have G : i_Rel (k + 4) (f_HALT, f_MOVE, f_ADD, f_SUB, f_MUL, f_LOAD, f_STORE, f_CONST, f_JUMP, f_BZ, f_BN, f_CALL, f_RET, f_POOL, f_VENEER, f_AROUND, f_LITERAL, f_DIRECT, f_WAITING, f_CELLS, f_JUMP_BITS, f_IMMEDIATE_BITS, f_FAR, nI cap, nI dp, nI fs, nI fl, nI sb, nI lb, nI c, f_size, f_literalRuns, f_assembled, a_lineOp, a_lineA, a_lineB, a_labels, a_addresses, a_via, a_cells, a_kinds, a_keys, a_data, a_stack, a_held, a_spot, a_state) (nI cap, nI dp, f_assembled, nI c, b_ops, b_as, b_bs, b_bound, b_labelLine, a_data, b_stack, a_held, b_at, a_state) := ci_mk F1 F2 F3 F4
  have hc : c ≤ 48 := by have := F1.1; have := F1.2.1; omega
  by_cases ha : f_assembled = 0
  · exact br_t ha (br_t ha ⟨rfl, G⟩)
  · obtain ⟨sz, rfl, e2, Bd, L, M⟩ := F4 ha
    subst e2
    have n13 : ∀ i, i ≤ c → ¬ a_lineOp i = 13 := by
      intro i hi
      obtain ⟨⟨o, ho, eo⟩, _⟩ := F2.1 i (by omega)
      rw [eo]
      exact ci_o13 ho
    exact br_f ha ⟨c + 2, cf_17 hc n13 L (br_f ha ⟨rfl, G⟩) (c + 2) 0 (by omega) (by omega)⟩
end
