section
/-! pure rows to paste: stores, nI and lN arithmetic, masks, shifts, narrowing, branches by naturals (pk_le, pk_lt, pk_eq), loops (lp1 .. lp16: the measure of the state; rp1 ..: recursion), negatives. Take what you need -/
theorem pk_us {f : Nat → Int32} {k : Nat} {x : Int32} : upd f k x k = x := if_pos rfl
theorem pk_un {f : Nat → Int32} {k j : Nat} {x : Int32} (h : j ≠ k) : upd f k x j = f j := if_neg h
theorem pk_uLs {f : Nat → Int64} {k : Nat} {x : Int64} : vp_updL f k x k = x := if_pos rfl
theorem pk_uLn {f : Nat → Int64} {k j : Nat} {x : Int64} (h : j ≠ k) : vp_updL f k x j = f j := if_neg h
theorem pk_sub {a b : Nat} (h : b ≤ a) : nI a - nI b = nI (a - b) := by
  obtain ⟨c, rfl⟩ : ∃ c, a = c + b := ⟨a - b, by omega⟩
  rw [← nI_add, Int32.add_sub_cancel, Nat.add_sub_cancel]
theorem pk_m1 (n : Nat) : nI (n + 1) + (-1) = nI n := by
  rw [← nI_1, Int32.add_assoc, show (1 : Int32) + (-1) = 0 from rfl, Int32.add_zero]
theorem pk_mul (a b : Nat) : nI a * nI b = nI (a * b) := (Int32.ofNat_mul a b).symm
theorem pk_div {a d : Nat} (ha : a < 2 ^ 31) (h0 : 0 < d) (hd : d < 2 ^ 31) : nI a / nI d = nI (a / d) := by
  apply Int32.toInt_inj.mp
  rw [lg_idiv_nonneg (by rw [nI_toInt ha]; omega) (by rw [nI_toInt hd]; omega), nI_toInt ha, nI_toInt hd, nI_toInt (Nat.lt_of_le_of_lt (Nat.div_le_self a d) ha)]
  first | rfl | exact (Int.natCast_ediv _ _).symm
theorem pk_rem {a d : Nat} (ha : a < 2 ^ 31) (h0 : 0 < d) (hd : d < 2 ^ 31) : nI a - nI a / nI d * nI d = nI (a % d) := by
  rw [pk_div ha h0 hd, pk_mul, pk_sub (Nat.div_mul_le_self a d)]
  exact congrArg nI (by have := Nat.div_add_mod' a d; omega)
theorem pk_sub_toInt {a b : Nat} (ha : a < 2 ^ 30) (hb : b < 2 ^ 30) : (nI a - nI b).toInt = (a : Int) - b := by
  rw [Int32.toInt_sub, nI_toInt (by omega), nI_toInt (by omega)]
  exact Int.bmod_eq_of_le (by omega) (by omega)
theorem pk_sneg {a b : Nat} (hb : b < 2 ^ 30) (h : a < b) : nI a - nI b < 0 := by
  rw [Int32.lt_iff_toInt_lt, pk_sub_toInt (by omega) hb, show (0 : Int32).toInt = 0 from by decide]
  omega
theorem pk_ix (x : Int32) {n : Nat} (hn : n < 2 ^ 31) : x < 0 ∨ nI n ≤ x ∨ ∃ j : Nat, j < n ∧ x = nI j := by
  by_cases h : x < 0
  · exact Or.inl h
  · obtain ⟨j, hj, rfl⟩ := nI_of h
    by_cases h2 : j < n
    · exact Or.inr (Or.inr ⟨j, h2, rfl⟩)
    · exact Or.inr (Or.inl (nI_le (by omega) hj))
theorem pk_le {x y : Int32} {A B : Prop} (a b : Nat) (f : a ≤ b → A) (g : b < a → B) (hx : x = nI a := by rfl) (hy : y = nI b := by rfl) (ha : a < 2 ^ 31 := by omega) (hb : b < 2 ^ 31 := by omega) : (x ≤ y → A) ∧ (¬ x ≤ y → B) := by
  subst hx hy
  rw [nI_leI ha hb]
  exact ⟨f, fun z => g (by omega)⟩
theorem pk_lt {x y : Int32} {A B : Prop} (a b : Nat) (f : a < b → A) (g : b ≤ a → B) (hx : x = nI a := by rfl) (hy : y = nI b := by rfl) (ha : a < 2 ^ 31 := by omega) (hb : b < 2 ^ 31 := by omega) : (x < y → A) ∧ (¬ x < y → B) := by
  subst hx hy
  rw [nI_ltI ha hb]
  exact ⟨f, fun z => g (by omega)⟩
theorem pk_eq {x y : Int32} {A B : Prop} (a b : Nat) (f : a = b → A) (g : a ≠ b → B) (hx : x = nI a := by rfl) (hy : y = nI b := by rfl) (ha : a < 2 ^ 31 := by omega) (hb : b < 2 ^ 31 := by omega) : (x = y → A) ∧ (¬ x = y → B) := by
  subst hx hy
  rw [nI_eq ha hb]
  exact ⟨f, g⟩
theorem pk_in {x : Int32} (n N : Nat) (h : n < N) (hx : x = nI n := by rfl) (hN : N < 2 ^ 31 := by omega) : vp_in x N := by
  subst hx
  exact vp_in_nI h hN
theorem pk_cl {x : Int32} (n : Nat) (hx : x = nI n := by rfl) (h : n < 2 ^ 31 := by omega) : x.toNatClampNeg = n := by
  subst hx
  exact nI_clamp h
theorem pk_tn {n : Nat} (h : n < 2 ^ 32) : (nI n).toBitVec.toNat = n := Nat.mod_eq_of_lt h
theorem pk_and (x : Int32) {m : Int32} (k : Nat) (hm : m.toBitVec.toNat = 2 ^ k - 1) : x &&& m = nI (x.toBitVec.toNat % 2 ^ k) := by
  apply Int32.toBitVec_inj.mp
  apply BitVec.eq_of_toNat_eq
  rw [Int32.toBitVec_and, BitVec.toNat_and, hm, Nat.and_two_pow_sub_one_eq_mod]
  show _ = (BitVec.ofNat 32 _).toNat
  rw [BitVec.toNat_ofNat]
  exact (Nat.mod_eq_of_lt (Nat.lt_of_le_of_lt (Nat.mod_le _ _) x.toBitVec.isLt)).symm
theorem pk_andN {n : Nat} (h : n < 2 ^ 32) {m : Int32} (k : Nat) (hm : m.toBitVec.toNat = 2 ^ k - 1) : nI n &&& m = nI (n % 2 ^ k) := by
  rw [pk_and _ k hm, pk_tn h]
theorem pk_andE (x : Int32) {m : Int32} (k : Nat) (hm : m.toBitVec.toNat = 2 ^ k - 1) : ∃ j : Nat, j < 2 ^ k ∧ x &&& m = nI j := ⟨_, Nat.mod_lt _ (Nat.two_pow_pos k), pk_and x k hm⟩
theorem pk_andIn (x : Int32) {m : Int32} (k : Nat) (hm : m.toBitVec.toNat = 2 ^ k - 1) (hk : k ≤ 30) : vp_in (x &&& m) (2 ^ k) := by
  obtain ⟨j, hj, e⟩ := pk_andE x k hm
  rw [e]
  exact vp_in_nI hj (Nat.lt_of_le_of_lt (Nat.pow_le_pow_right (by decide) hk) (by decide))
theorem pk_shl (a s : Int32) (k : Nat) (hs : (s.toBitVec.smod 32).toNat = k) : (a <<< s).toBitVec.toNat = a.toBitVec.toNat * 2 ^ k % 2 ^ 32 := by
  show (a.toBitVec <<< (s.toBitVec.smod 32).toNat).toNat = _
  rw [hs, BitVec.toNat_shiftLeft, Nat.shiftLeft_eq]
theorem pk_shlN {n : Nat} (s : Int32) (k : Nat) (hs : (s.toBitVec.smod 32).toNat = k) (h : n * 2 ^ k < 2 ^ 32) : nI n <<< s = nI (n * 2 ^ k) := by
  apply Int32.toBitVec_inj.mp
  apply BitVec.eq_of_toNat_eq
  have hn : n < 2 ^ 32 := Nat.lt_of_le_of_lt (Nat.le_mul_of_pos_right n (Nat.two_pow_pos k)) h
  rw [pk_shl _ _ k hs, pk_tn hn, pk_tn h, Nat.mod_eq_of_lt h]
theorem pk_shr (a s : Int32) (k : Nat) (hs : (s.toBitVec.smod 32).toNat = k) : (a >>> s).toInt = a.toInt >>> k := by
  show (a.toBitVec.sshiftRight (s.toBitVec.smod 32).toNat).toInt = _
  rw [hs, BitVec.toInt_sshiftRight]
  rfl
theorem pk_shrN {n : Nat} (h : n < 2 ^ 31) (s : Int32) (k : Nat) (hs : (s.toBitVec.smod 32).toNat = k) : nI n >>> s = nI (n / 2 ^ k) := by
  apply Int32.toInt_inj.mp
  have h2 : n / 2 ^ k ≤ n := Nat.div_le_self _ _
  rw [pk_shr _ _ k hs, nI_toInt h, nI_toInt (by omega), Int.shiftRight_eq_div_pow]
  rfl
theorem pk_ushr (x s : Int32) (k : Nat) (hs : ((s.toUInt32 &&& Int32.toUInt32 31).toBitVec % 32).toNat = k) : (x.toUInt32 >>> (s.toUInt32 &&& Int32.toUInt32 31)).toInt32.toBitVec.toNat = x.toBitVec.toNat / 2 ^ k := by
  have e : (x.toUInt32 >>> (s.toUInt32 &&& Int32.toUInt32 31)).toInt32.toBitVec = x.toBitVec >>> k := by
    rw [← hs]
    exact UInt32.toBitVec_shiftRight _ _
  rw [e, BitVec.toNat_ushiftRight, Nat.shiftRight_eq_div_pow]
theorem pk_ushrN {n : Nat} (hn : n < 2 ^ 32) (s : Int32) (k : Nat) (hs : ((s.toUInt32 &&& Int32.toUInt32 31).toBitVec % 32).toNat = k) : ((nI n).toUInt32 >>> (s.toUInt32 &&& Int32.toUInt32 31)).toInt32 = nI (n / 2 ^ k) := by
  apply Int32.toBitVec_inj.mp
  apply BitVec.eq_of_toNat_eq
  rw [pk_ushr _ s k hs, pk_tn hn, pk_tn (Nat.lt_of_le_of_lt (Nat.div_le_self _ _) hn)]
theorem pk_nb (z : Int32) : narrow .byte (.int z.toInt8.toInt32) = .int z.toInt8.toInt32 := congrArg Value.int (by simp)
theorem pk_ns (z : Int32) : narrow .short (.int z.toInt16.toInt32) = .int z.toInt16.toInt32 := congrArg Value.int (by simp)
theorem pk_fb (r : Int32) : fits .byte (.int r.toInt8.toInt32) = true := by
  have ⟨a, b⟩ := lg_i2b_range r
  have h1 : (-128 : Int32).toInt = -128 := by decide
  have h2 : (127 : Int32).toInt = 127 := by decide
  simp only [fits, Bool.and_eq_true, decide_eq_true_eq, Int32.le_iff_toInt_le, h1, h2]
  omega
theorem pk_fs (r : Int32) : fits .short (.int r.toInt16.toInt32) = true := by
  have ⟨a, b⟩ := lg_i2s_range r
  have h1 : (-32768 : Int32).toInt = -32768 := by decide
  have h2 : (32767 : Int32).toInt = 32767 := by decide
  simp only [fits, Bool.and_eq_true, decide_eq_true_eq, Int32.le_iff_toInt_le, h1, h2]
  omega
theorem pk_charN {q : Nat} (hq : q < 65536) : narrow .char (.int (nI q)) = .int (nI q) ∧ fits .char (.int (nI q)) = true := by
  constructor
  · have e : (nI q).toUInt32.toUInt16.toUInt32.toInt32 = nI q := by
      apply Int32.toBitVec_inj.mp
      apply BitVec.eq_of_toNat_eq
      show (nI q).toUInt32.toUInt16.toUInt32.toNat = q % 2 ^ 32
      rw [UInt16.toNat_toUInt32, UInt32.toNat_toUInt16, show (nI q).toUInt32.toNat = q % 2 ^ 32 from rfl]
      omega
    exact congrArg Value.int e
  · have a : (0 : Int32) ≤ nI q := nI_pos' (by omega)
    have b : nI q ≤ 65535 := nI_le (b := 65535) (by omega) (by decide)
    show (decide ((0 : Int32) ≤ nI q) && decide (nI q ≤ 65535)) = true
    rw [decide_eq_true a, decide_eq_true b]
    rfl
theorem pk_char (x : Int32) : (x.toUInt32 % 65536).toInt32 = nI (x.toBitVec.toNat % 65536) := by
  apply Int32.toBitVec_inj.mp
  apply BitVec.eq_of_toNat_eq
  rw [pk_tn (by omega)]
  show (x.toUInt32 % 65536).toNat = _
  rw [UInt32.toNat_mod]
  rfl
theorem pk_nc (x : Int32) : narrow .char (.int (x.toUInt32 % 65536).toInt32) = .int (x.toUInt32 % 65536).toInt32 := by
  rw [pk_char]
  exact (pk_charN (Nat.mod_lt _ (by decide))).1
theorem pk_fc (x : Int32) : fits .char (.int (x.toUInt32 % 65536).toInt32) = true := by
  rw [pk_char]
  exact (pk_charN (Nat.mod_lt _ (by decide))).2
theorem pk_vb (z : Int32) : vp_nar .byte z.toInt8.toInt32 = z.toInt8.toInt32 := by rw [vp_nar_byte]; simp
theorem pk_vs (z : Int32) : vp_nar .short z.toInt16.toInt32 = z.toInt16.toInt32 := by rw [vp_nar_short]; simp
theorem pk_vc (z : Int32) : vp_nar .char (z.toUInt32 % 65536).toInt32 = (z.toUInt32 % 65536).toInt32 := Value.int.inj (pk_nc z)
theorem pk_lT {n : Nat} (h : n < 2 ^ 63) : (lN n).toInt = (n : Int) := lg_ofNat_toInt h
theorem pk_lLT {a b : Nat} (ha : a < 2 ^ 63) (hb : b < 2 ^ 63) : lN a < lN b ↔ a < b := by
  rw [Int64.lt_iff_toInt_lt, pk_lT ha, pk_lT hb]; omega
theorem pk_lLE {a b : Nat} (ha : a < 2 ^ 63) (hb : b < 2 ^ 63) : lN a ≤ lN b ↔ a ≤ b := by
  rw [Int64.le_iff_toInt_le, pk_lT ha, pk_lT hb]; omega
theorem pk_lEQ {a b : Nat} (ha : a < 2 ^ 63) (hb : b < 2 ^ 63) : lN a = lN b ↔ a = b := by
  rw [← Int64.toInt_inj, pk_lT ha, pk_lT hb]; omega
theorem pk_lOf {x : Int64} (h : ¬ x < 0) : ∃ k : Nat, k < 2 ^ 63 ∧ x = lN k := by
  rw [Int64.lt_iff_toInt_lt] at h
  have h0 : (0 : Int64).toInt = 0 := by decide
  have hx := Int64.toInt_lt x
  refine ⟨x.toInt.toNat, by omega, Int64.toInt_inj.mp ?_⟩
  rw [pk_lT (by omega)]
  omega
theorem pk_lDiv {a b : Nat} (ha : a < 2 ^ 63) (h0 : 0 < b) (hb : b < 2 ^ 63) : lN a / lN b = lN (a / b) := by
  apply Int64.toInt_inj.mp
  rw [lg_ldiv_nonneg (by rw [pk_lT ha]; omega) (by rw [pk_lT hb]; omega), pk_lT ha, pk_lT hb, pk_lT (Nat.lt_of_le_of_lt (Nat.div_le_self a b) ha)]
  rfl
theorem pk_lRem {a b : Nat} (ha : a < 2 ^ 63) (h0 : 0 < b) (hb : b < 2 ^ 63) : lN a - lN a / lN b * lN b = lN (a % b) := by
  rw [pk_lDiv ha h0 hb, lN_mul, lN_sub (Nat.div_mul_le_self a b)]
  exact congrArg lN (by have := Nat.div_add_mod' a b; omega)
theorem pk_loop {σ : Type} (W : Nat → Nat → σ → Prop) (I : Nat → σ → Prop) (e i0 : Nat) (s : σ) (hi : i0 ≤ e) (h0 : I i0 s) (hx : ∀ n s, I e s → W (n + 1) e s)
    (hs : ∀ n i s, i < e → I i s → (∀ s', I (i + 1) s' → W n (i + 1) s') → W (n + 1) i s) : ∃ n, W n i0 s :=
  ⟨e + 1, loop_i W I e hx hs (e + 1) i0 s hi (by omega) h0⟩
theorem pk_loopD {σ : Type} (W : Nat → Nat → σ → Prop) (I : Nat → σ → Prop) (hx : ∀ n s, I 0 s → W (n + 1) 0 s)
    (hs : ∀ n i s, I (i + 1) s → (∀ s', I i s' → W n i s') → W (n + 1) (i + 1) s) : ∀ (e : Nat) (s : σ), I e s → W (e + 1) e s := by
  intro e
  induction e with
  | zero => exact fun s h => hx 0 s h
  | succ e ih => exact fun s h => hs (e + 1) e s h (fun s' h' => ih s' h')
theorem lp1 {A1 : Type} (W : Nat → A1 → Prop) (I : A1 → Prop) (μ : A1 → Nat) (hs : ∀ (n : Nat) (a1 : A1), I a1 → (∀ (b1 : A1), I b1 → μ b1 < μ a1 → W n b1) → W (n + 1) a1) (a1 : A1) (h : I a1) : ∃ n, W n a1 :=
  loop_m (σ := A1) (fun n s => W n s) (fun s => I s) (fun s => μ s) (fun n s hI hk => hs n s hI (fun b1 h9 hm => hk b1 h9 hm)) a1 h
theorem lp2 {A1 A2 : Type} (W : Nat → A1 → A2 → Prop) (I : A1 → A2 → Prop) (μ : A1 → A2 → Nat) (hs : ∀ (n : Nat) (a1 : A1) (a2 : A2), I a1 a2 → (∀ (b1 : A1) (b2 : A2), I b1 b2 → μ b1 b2 < μ a1 a2 → W n b1 b2) → W (n + 1) a1 a2) (a1 : A1) (a2 : A2) (h : I a1 a2) : ∃ n, W n a1 a2 :=
  loop_m (σ := A1 × A2) (fun n s => W n s.1 s.2) (fun s => I s.1 s.2) (fun s => μ s.1 s.2) (fun n s hI hk => hs n s.1 s.2 hI (fun b1 b2 h9 hm => hk (b1, b2) h9 hm)) (a1, a2) h
theorem lp3 {A1 A2 A3 : Type} (W : Nat → A1 → A2 → A3 → Prop) (I : A1 → A2 → A3 → Prop) (μ : A1 → A2 → A3 → Nat) (hs : ∀ (n : Nat) (a1 : A1) (a2 : A2) (a3 : A3), I a1 a2 a3 → (∀ (b1 : A1) (b2 : A2) (b3 : A3), I b1 b2 b3 → μ b1 b2 b3 < μ a1 a2 a3 → W n b1 b2 b3) → W (n + 1) a1 a2 a3) (a1 : A1) (a2 : A2) (a3 : A3) (h : I a1 a2 a3) : ∃ n, W n a1 a2 a3 :=
  loop_m (σ := A1 × A2 × A3) (fun n s => W n s.1 s.2.1 s.2.2) (fun s => I s.1 s.2.1 s.2.2) (fun s => μ s.1 s.2.1 s.2.2) (fun n s hI hk => hs n s.1 s.2.1 s.2.2 hI (fun b1 b2 b3 h9 hm => hk (b1, b2, b3) h9 hm)) (a1, a2, a3) h
theorem lp4 {A1 A2 A3 A4 : Type} (W : Nat → A1 → A2 → A3 → A4 → Prop) (I : A1 → A2 → A3 → A4 → Prop) (μ : A1 → A2 → A3 → A4 → Nat) (hs : ∀ (n : Nat) (a1 : A1) (a2 : A2) (a3 : A3) (a4 : A4), I a1 a2 a3 a4 → (∀ (b1 : A1) (b2 : A2) (b3 : A3) (b4 : A4), I b1 b2 b3 b4 → μ b1 b2 b3 b4 < μ a1 a2 a3 a4 → W n b1 b2 b3 b4) → W (n + 1) a1 a2 a3 a4) (a1 : A1) (a2 : A2) (a3 : A3) (a4 : A4) (h : I a1 a2 a3 a4) : ∃ n, W n a1 a2 a3 a4 :=
  loop_m (σ := A1 × A2 × A3 × A4) (fun n s => W n s.1 s.2.1 s.2.2.1 s.2.2.2) (fun s => I s.1 s.2.1 s.2.2.1 s.2.2.2) (fun s => μ s.1 s.2.1 s.2.2.1 s.2.2.2) (fun n s hI hk => hs n s.1 s.2.1 s.2.2.1 s.2.2.2 hI (fun b1 b2 b3 b4 h9 hm => hk (b1, b2, b3, b4) h9 hm)) (a1, a2, a3, a4) h
theorem lp5 {A1 A2 A3 A4 A5 : Type} (W : Nat → A1 → A2 → A3 → A4 → A5 → Prop) (I : A1 → A2 → A3 → A4 → A5 → Prop) (μ : A1 → A2 → A3 → A4 → A5 → Nat) (hs : ∀ (n : Nat) (a1 : A1) (a2 : A2) (a3 : A3) (a4 : A4) (a5 : A5), I a1 a2 a3 a4 a5 → (∀ (b1 : A1) (b2 : A2) (b3 : A3) (b4 : A4) (b5 : A5), I b1 b2 b3 b4 b5 → μ b1 b2 b3 b4 b5 < μ a1 a2 a3 a4 a5 → W n b1 b2 b3 b4 b5) → W (n + 1) a1 a2 a3 a4 a5) (a1 : A1) (a2 : A2) (a3 : A3) (a4 : A4) (a5 : A5) (h : I a1 a2 a3 a4 a5) : ∃ n, W n a1 a2 a3 a4 a5 :=
  loop_m (σ := A1 × A2 × A3 × A4 × A5) (fun n s => W n s.1 s.2.1 s.2.2.1 s.2.2.2.1 s.2.2.2.2) (fun s => I s.1 s.2.1 s.2.2.1 s.2.2.2.1 s.2.2.2.2) (fun s => μ s.1 s.2.1 s.2.2.1 s.2.2.2.1 s.2.2.2.2) (fun n s hI hk => hs n s.1 s.2.1 s.2.2.1 s.2.2.2.1 s.2.2.2.2 hI (fun b1 b2 b3 b4 b5 h9 hm => hk (b1, b2, b3, b4, b5) h9 hm)) (a1, a2, a3, a4, a5) h
theorem lp6 {A1 A2 A3 A4 A5 A6 : Type} (W : Nat → A1 → A2 → A3 → A4 → A5 → A6 → Prop) (I : A1 → A2 → A3 → A4 → A5 → A6 → Prop) (μ : A1 → A2 → A3 → A4 → A5 → A6 → Nat) (hs : ∀ (n : Nat) (a1 : A1) (a2 : A2) (a3 : A3) (a4 : A4) (a5 : A5) (a6 : A6), I a1 a2 a3 a4 a5 a6 → (∀ (b1 : A1) (b2 : A2) (b3 : A3) (b4 : A4) (b5 : A5) (b6 : A6), I b1 b2 b3 b4 b5 b6 → μ b1 b2 b3 b4 b5 b6 < μ a1 a2 a3 a4 a5 a6 → W n b1 b2 b3 b4 b5 b6) → W (n + 1) a1 a2 a3 a4 a5 a6) (a1 : A1) (a2 : A2) (a3 : A3) (a4 : A4) (a5 : A5) (a6 : A6) (h : I a1 a2 a3 a4 a5 a6) : ∃ n, W n a1 a2 a3 a4 a5 a6 :=
  loop_m (σ := A1 × A2 × A3 × A4 × A5 × A6) (fun n s => W n s.1 s.2.1 s.2.2.1 s.2.2.2.1 s.2.2.2.2.1 s.2.2.2.2.2) (fun s => I s.1 s.2.1 s.2.2.1 s.2.2.2.1 s.2.2.2.2.1 s.2.2.2.2.2) (fun s => μ s.1 s.2.1 s.2.2.1 s.2.2.2.1 s.2.2.2.2.1 s.2.2.2.2.2) (fun n s hI hk => hs n s.1 s.2.1 s.2.2.1 s.2.2.2.1 s.2.2.2.2.1 s.2.2.2.2.2 hI (fun b1 b2 b3 b4 b5 b6 h9 hm => hk (b1, b2, b3, b4, b5, b6) h9 hm)) (a1, a2, a3, a4, a5, a6) h
theorem lp7 {A1 A2 A3 A4 A5 A6 A7 : Type} (W : Nat → A1 → A2 → A3 → A4 → A5 → A6 → A7 → Prop) (I : A1 → A2 → A3 → A4 → A5 → A6 → A7 → Prop) (μ : A1 → A2 → A3 → A4 → A5 → A6 → A7 → Nat) (hs : ∀ (n : Nat) (a1 : A1) (a2 : A2) (a3 : A3) (a4 : A4) (a5 : A5) (a6 : A6) (a7 : A7), I a1 a2 a3 a4 a5 a6 a7 → (∀ (b1 : A1) (b2 : A2) (b3 : A3) (b4 : A4) (b5 : A5) (b6 : A6) (b7 : A7), I b1 b2 b3 b4 b5 b6 b7 → μ b1 b2 b3 b4 b5 b6 b7 < μ a1 a2 a3 a4 a5 a6 a7 → W n b1 b2 b3 b4 b5 b6 b7) → W (n + 1) a1 a2 a3 a4 a5 a6 a7) (a1 : A1) (a2 : A2) (a3 : A3) (a4 : A4) (a5 : A5) (a6 : A6) (a7 : A7) (h : I a1 a2 a3 a4 a5 a6 a7) : ∃ n, W n a1 a2 a3 a4 a5 a6 a7 :=
  loop_m (σ := A1 × A2 × A3 × A4 × A5 × A6 × A7) (fun n s => W n s.1 s.2.1 s.2.2.1 s.2.2.2.1 s.2.2.2.2.1 s.2.2.2.2.2.1 s.2.2.2.2.2.2) (fun s => I s.1 s.2.1 s.2.2.1 s.2.2.2.1 s.2.2.2.2.1 s.2.2.2.2.2.1 s.2.2.2.2.2.2) (fun s => μ s.1 s.2.1 s.2.2.1 s.2.2.2.1 s.2.2.2.2.1 s.2.2.2.2.2.1 s.2.2.2.2.2.2) (fun n s hI hk => hs n s.1 s.2.1 s.2.2.1 s.2.2.2.1 s.2.2.2.2.1 s.2.2.2.2.2.1 s.2.2.2.2.2.2 hI (fun b1 b2 b3 b4 b5 b6 b7 h9 hm => hk (b1, b2, b3, b4, b5, b6, b7) h9 hm)) (a1, a2, a3, a4, a5, a6, a7) h
theorem lp8 {A1 A2 A3 A4 A5 A6 A7 A8 : Type} (W : Nat → A1 → A2 → A3 → A4 → A5 → A6 → A7 → A8 → Prop) (I : A1 → A2 → A3 → A4 → A5 → A6 → A7 → A8 → Prop) (μ : A1 → A2 → A3 → A4 → A5 → A6 → A7 → A8 → Nat) (hs : ∀ (n : Nat) (a1 : A1) (a2 : A2) (a3 : A3) (a4 : A4) (a5 : A5) (a6 : A6) (a7 : A7) (a8 : A8), I a1 a2 a3 a4 a5 a6 a7 a8 → (∀ (b1 : A1) (b2 : A2) (b3 : A3) (b4 : A4) (b5 : A5) (b6 : A6) (b7 : A7) (b8 : A8), I b1 b2 b3 b4 b5 b6 b7 b8 → μ b1 b2 b3 b4 b5 b6 b7 b8 < μ a1 a2 a3 a4 a5 a6 a7 a8 → W n b1 b2 b3 b4 b5 b6 b7 b8) → W (n + 1) a1 a2 a3 a4 a5 a6 a7 a8) (a1 : A1) (a2 : A2) (a3 : A3) (a4 : A4) (a5 : A5) (a6 : A6) (a7 : A7) (a8 : A8) (h : I a1 a2 a3 a4 a5 a6 a7 a8) : ∃ n, W n a1 a2 a3 a4 a5 a6 a7 a8 :=
  loop_m (σ := A1 × A2 × A3 × A4 × A5 × A6 × A7 × A8) (fun n s => W n s.1 s.2.1 s.2.2.1 s.2.2.2.1 s.2.2.2.2.1 s.2.2.2.2.2.1 s.2.2.2.2.2.2.1 s.2.2.2.2.2.2.2) (fun s => I s.1 s.2.1 s.2.2.1 s.2.2.2.1 s.2.2.2.2.1 s.2.2.2.2.2.1 s.2.2.2.2.2.2.1 s.2.2.2.2.2.2.2) (fun s => μ s.1 s.2.1 s.2.2.1 s.2.2.2.1 s.2.2.2.2.1 s.2.2.2.2.2.1 s.2.2.2.2.2.2.1 s.2.2.2.2.2.2.2) (fun n s hI hk => hs n s.1 s.2.1 s.2.2.1 s.2.2.2.1 s.2.2.2.2.1 s.2.2.2.2.2.1 s.2.2.2.2.2.2.1 s.2.2.2.2.2.2.2 hI (fun b1 b2 b3 b4 b5 b6 b7 b8 h9 hm => hk (b1, b2, b3, b4, b5, b6, b7, b8) h9 hm)) (a1, a2, a3, a4, a5, a6, a7, a8) h
theorem lp9 {A1 A2 A3 A4 A5 A6 A7 A8 A9 : Type} (W : Nat → A1 → A2 → A3 → A4 → A5 → A6 → A7 → A8 → A9 → Prop) (I : A1 → A2 → A3 → A4 → A5 → A6 → A7 → A8 → A9 → Prop) (μ : A1 → A2 → A3 → A4 → A5 → A6 → A7 → A8 → A9 → Nat) (hs : ∀ (n : Nat) (a1 : A1) (a2 : A2) (a3 : A3) (a4 : A4) (a5 : A5) (a6 : A6) (a7 : A7) (a8 : A8) (a9 : A9), I a1 a2 a3 a4 a5 a6 a7 a8 a9 → (∀ (b1 : A1) (b2 : A2) (b3 : A3) (b4 : A4) (b5 : A5) (b6 : A6) (b7 : A7) (b8 : A8) (b9 : A9), I b1 b2 b3 b4 b5 b6 b7 b8 b9 → μ b1 b2 b3 b4 b5 b6 b7 b8 b9 < μ a1 a2 a3 a4 a5 a6 a7 a8 a9 → W n b1 b2 b3 b4 b5 b6 b7 b8 b9) → W (n + 1) a1 a2 a3 a4 a5 a6 a7 a8 a9) (a1 : A1) (a2 : A2) (a3 : A3) (a4 : A4) (a5 : A5) (a6 : A6) (a7 : A7) (a8 : A8) (a9 : A9) (h : I a1 a2 a3 a4 a5 a6 a7 a8 a9) : ∃ n, W n a1 a2 a3 a4 a5 a6 a7 a8 a9 :=
  loop_m (σ := A1 × A2 × A3 × A4 × A5 × A6 × A7 × A8 × A9) (fun n s => W n s.1 s.2.1 s.2.2.1 s.2.2.2.1 s.2.2.2.2.1 s.2.2.2.2.2.1 s.2.2.2.2.2.2.1 s.2.2.2.2.2.2.2.1 s.2.2.2.2.2.2.2.2) (fun s => I s.1 s.2.1 s.2.2.1 s.2.2.2.1 s.2.2.2.2.1 s.2.2.2.2.2.1 s.2.2.2.2.2.2.1 s.2.2.2.2.2.2.2.1 s.2.2.2.2.2.2.2.2) (fun s => μ s.1 s.2.1 s.2.2.1 s.2.2.2.1 s.2.2.2.2.1 s.2.2.2.2.2.1 s.2.2.2.2.2.2.1 s.2.2.2.2.2.2.2.1 s.2.2.2.2.2.2.2.2) (fun n s hI hk => hs n s.1 s.2.1 s.2.2.1 s.2.2.2.1 s.2.2.2.2.1 s.2.2.2.2.2.1 s.2.2.2.2.2.2.1 s.2.2.2.2.2.2.2.1 s.2.2.2.2.2.2.2.2 hI (fun b1 b2 b3 b4 b5 b6 b7 b8 b9 h9 hm => hk (b1, b2, b3, b4, b5, b6, b7, b8, b9) h9 hm)) (a1, a2, a3, a4, a5, a6, a7, a8, a9) h
theorem lp10 {A1 A2 A3 A4 A5 A6 A7 A8 A9 A10 : Type} (W : Nat → A1 → A2 → A3 → A4 → A5 → A6 → A7 → A8 → A9 → A10 → Prop) (I : A1 → A2 → A3 → A4 → A5 → A6 → A7 → A8 → A9 → A10 → Prop) (μ : A1 → A2 → A3 → A4 → A5 → A6 → A7 → A8 → A9 → A10 → Nat) (hs : ∀ (n : Nat) (a1 : A1) (a2 : A2) (a3 : A3) (a4 : A4) (a5 : A5) (a6 : A6) (a7 : A7) (a8 : A8) (a9 : A9) (a10 : A10), I a1 a2 a3 a4 a5 a6 a7 a8 a9 a10 → (∀ (b1 : A1) (b2 : A2) (b3 : A3) (b4 : A4) (b5 : A5) (b6 : A6) (b7 : A7) (b8 : A8) (b9 : A9) (b10 : A10), I b1 b2 b3 b4 b5 b6 b7 b8 b9 b10 → μ b1 b2 b3 b4 b5 b6 b7 b8 b9 b10 < μ a1 a2 a3 a4 a5 a6 a7 a8 a9 a10 → W n b1 b2 b3 b4 b5 b6 b7 b8 b9 b10) → W (n + 1) a1 a2 a3 a4 a5 a6 a7 a8 a9 a10) (a1 : A1) (a2 : A2) (a3 : A3) (a4 : A4) (a5 : A5) (a6 : A6) (a7 : A7) (a8 : A8) (a9 : A9) (a10 : A10) (h : I a1 a2 a3 a4 a5 a6 a7 a8 a9 a10) : ∃ n, W n a1 a2 a3 a4 a5 a6 a7 a8 a9 a10 :=
  loop_m (σ := A1 × A2 × A3 × A4 × A5 × A6 × A7 × A8 × A9 × A10) (fun n s => W n s.1 s.2.1 s.2.2.1 s.2.2.2.1 s.2.2.2.2.1 s.2.2.2.2.2.1 s.2.2.2.2.2.2.1 s.2.2.2.2.2.2.2.1 s.2.2.2.2.2.2.2.2.1 s.2.2.2.2.2.2.2.2.2) (fun s => I s.1 s.2.1 s.2.2.1 s.2.2.2.1 s.2.2.2.2.1 s.2.2.2.2.2.1 s.2.2.2.2.2.2.1 s.2.2.2.2.2.2.2.1 s.2.2.2.2.2.2.2.2.1 s.2.2.2.2.2.2.2.2.2) (fun s => μ s.1 s.2.1 s.2.2.1 s.2.2.2.1 s.2.2.2.2.1 s.2.2.2.2.2.1 s.2.2.2.2.2.2.1 s.2.2.2.2.2.2.2.1 s.2.2.2.2.2.2.2.2.1 s.2.2.2.2.2.2.2.2.2) (fun n s hI hk => hs n s.1 s.2.1 s.2.2.1 s.2.2.2.1 s.2.2.2.2.1 s.2.2.2.2.2.1 s.2.2.2.2.2.2.1 s.2.2.2.2.2.2.2.1 s.2.2.2.2.2.2.2.2.1 s.2.2.2.2.2.2.2.2.2 hI (fun b1 b2 b3 b4 b5 b6 b7 b8 b9 b10 h9 hm => hk (b1, b2, b3, b4, b5, b6, b7, b8, b9, b10) h9 hm)) (a1, a2, a3, a4, a5, a6, a7, a8, a9, a10) h
theorem lp11 {A1 A2 A3 A4 A5 A6 A7 A8 A9 A10 A11 : Type} (W : Nat → A1 → A2 → A3 → A4 → A5 → A6 → A7 → A8 → A9 → A10 → A11 → Prop) (I : A1 → A2 → A3 → A4 → A5 → A6 → A7 → A8 → A9 → A10 → A11 → Prop) (μ : A1 → A2 → A3 → A4 → A5 → A6 → A7 → A8 → A9 → A10 → A11 → Nat) (hs : ∀ (n : Nat) (a1 : A1) (a2 : A2) (a3 : A3) (a4 : A4) (a5 : A5) (a6 : A6) (a7 : A7) (a8 : A8) (a9 : A9) (a10 : A10) (a11 : A11), I a1 a2 a3 a4 a5 a6 a7 a8 a9 a10 a11 → (∀ (b1 : A1) (b2 : A2) (b3 : A3) (b4 : A4) (b5 : A5) (b6 : A6) (b7 : A7) (b8 : A8) (b9 : A9) (b10 : A10) (b11 : A11), I b1 b2 b3 b4 b5 b6 b7 b8 b9 b10 b11 → μ b1 b2 b3 b4 b5 b6 b7 b8 b9 b10 b11 < μ a1 a2 a3 a4 a5 a6 a7 a8 a9 a10 a11 → W n b1 b2 b3 b4 b5 b6 b7 b8 b9 b10 b11) → W (n + 1) a1 a2 a3 a4 a5 a6 a7 a8 a9 a10 a11) (a1 : A1) (a2 : A2) (a3 : A3) (a4 : A4) (a5 : A5) (a6 : A6) (a7 : A7) (a8 : A8) (a9 : A9) (a10 : A10) (a11 : A11) (h : I a1 a2 a3 a4 a5 a6 a7 a8 a9 a10 a11) : ∃ n, W n a1 a2 a3 a4 a5 a6 a7 a8 a9 a10 a11 :=
  loop_m (σ := A1 × A2 × A3 × A4 × A5 × A6 × A7 × A8 × A9 × A10 × A11) (fun n s => W n s.1 s.2.1 s.2.2.1 s.2.2.2.1 s.2.2.2.2.1 s.2.2.2.2.2.1 s.2.2.2.2.2.2.1 s.2.2.2.2.2.2.2.1 s.2.2.2.2.2.2.2.2.1 s.2.2.2.2.2.2.2.2.2.1 s.2.2.2.2.2.2.2.2.2.2) (fun s => I s.1 s.2.1 s.2.2.1 s.2.2.2.1 s.2.2.2.2.1 s.2.2.2.2.2.1 s.2.2.2.2.2.2.1 s.2.2.2.2.2.2.2.1 s.2.2.2.2.2.2.2.2.1 s.2.2.2.2.2.2.2.2.2.1 s.2.2.2.2.2.2.2.2.2.2) (fun s => μ s.1 s.2.1 s.2.2.1 s.2.2.2.1 s.2.2.2.2.1 s.2.2.2.2.2.1 s.2.2.2.2.2.2.1 s.2.2.2.2.2.2.2.1 s.2.2.2.2.2.2.2.2.1 s.2.2.2.2.2.2.2.2.2.1 s.2.2.2.2.2.2.2.2.2.2) (fun n s hI hk => hs n s.1 s.2.1 s.2.2.1 s.2.2.2.1 s.2.2.2.2.1 s.2.2.2.2.2.1 s.2.2.2.2.2.2.1 s.2.2.2.2.2.2.2.1 s.2.2.2.2.2.2.2.2.1 s.2.2.2.2.2.2.2.2.2.1 s.2.2.2.2.2.2.2.2.2.2 hI (fun b1 b2 b3 b4 b5 b6 b7 b8 b9 b10 b11 h9 hm => hk (b1, b2, b3, b4, b5, b6, b7, b8, b9, b10, b11) h9 hm)) (a1, a2, a3, a4, a5, a6, a7, a8, a9, a10, a11) h
theorem lp12 {A1 A2 A3 A4 A5 A6 A7 A8 A9 A10 A11 A12 : Type} (W : Nat → A1 → A2 → A3 → A4 → A5 → A6 → A7 → A8 → A9 → A10 → A11 → A12 → Prop) (I : A1 → A2 → A3 → A4 → A5 → A6 → A7 → A8 → A9 → A10 → A11 → A12 → Prop) (μ : A1 → A2 → A3 → A4 → A5 → A6 → A7 → A8 → A9 → A10 → A11 → A12 → Nat) (hs : ∀ (n : Nat) (a1 : A1) (a2 : A2) (a3 : A3) (a4 : A4) (a5 : A5) (a6 : A6) (a7 : A7) (a8 : A8) (a9 : A9) (a10 : A10) (a11 : A11) (a12 : A12), I a1 a2 a3 a4 a5 a6 a7 a8 a9 a10 a11 a12 → (∀ (b1 : A1) (b2 : A2) (b3 : A3) (b4 : A4) (b5 : A5) (b6 : A6) (b7 : A7) (b8 : A8) (b9 : A9) (b10 : A10) (b11 : A11) (b12 : A12), I b1 b2 b3 b4 b5 b6 b7 b8 b9 b10 b11 b12 → μ b1 b2 b3 b4 b5 b6 b7 b8 b9 b10 b11 b12 < μ a1 a2 a3 a4 a5 a6 a7 a8 a9 a10 a11 a12 → W n b1 b2 b3 b4 b5 b6 b7 b8 b9 b10 b11 b12) → W (n + 1) a1 a2 a3 a4 a5 a6 a7 a8 a9 a10 a11 a12) (a1 : A1) (a2 : A2) (a3 : A3) (a4 : A4) (a5 : A5) (a6 : A6) (a7 : A7) (a8 : A8) (a9 : A9) (a10 : A10) (a11 : A11) (a12 : A12) (h : I a1 a2 a3 a4 a5 a6 a7 a8 a9 a10 a11 a12) : ∃ n, W n a1 a2 a3 a4 a5 a6 a7 a8 a9 a10 a11 a12 :=
  loop_m (σ := A1 × A2 × A3 × A4 × A5 × A6 × A7 × A8 × A9 × A10 × A11 × A12) (fun n s => W n s.1 s.2.1 s.2.2.1 s.2.2.2.1 s.2.2.2.2.1 s.2.2.2.2.2.1 s.2.2.2.2.2.2.1 s.2.2.2.2.2.2.2.1 s.2.2.2.2.2.2.2.2.1 s.2.2.2.2.2.2.2.2.2.1 s.2.2.2.2.2.2.2.2.2.2.1 s.2.2.2.2.2.2.2.2.2.2.2) (fun s => I s.1 s.2.1 s.2.2.1 s.2.2.2.1 s.2.2.2.2.1 s.2.2.2.2.2.1 s.2.2.2.2.2.2.1 s.2.2.2.2.2.2.2.1 s.2.2.2.2.2.2.2.2.1 s.2.2.2.2.2.2.2.2.2.1 s.2.2.2.2.2.2.2.2.2.2.1 s.2.2.2.2.2.2.2.2.2.2.2) (fun s => μ s.1 s.2.1 s.2.2.1 s.2.2.2.1 s.2.2.2.2.1 s.2.2.2.2.2.1 s.2.2.2.2.2.2.1 s.2.2.2.2.2.2.2.1 s.2.2.2.2.2.2.2.2.1 s.2.2.2.2.2.2.2.2.2.1 s.2.2.2.2.2.2.2.2.2.2.1 s.2.2.2.2.2.2.2.2.2.2.2) (fun n s hI hk => hs n s.1 s.2.1 s.2.2.1 s.2.2.2.1 s.2.2.2.2.1 s.2.2.2.2.2.1 s.2.2.2.2.2.2.1 s.2.2.2.2.2.2.2.1 s.2.2.2.2.2.2.2.2.1 s.2.2.2.2.2.2.2.2.2.1 s.2.2.2.2.2.2.2.2.2.2.1 s.2.2.2.2.2.2.2.2.2.2.2 hI (fun b1 b2 b3 b4 b5 b6 b7 b8 b9 b10 b11 b12 h9 hm => hk (b1, b2, b3, b4, b5, b6, b7, b8, b9, b10, b11, b12) h9 hm)) (a1, a2, a3, a4, a5, a6, a7, a8, a9, a10, a11, a12) h
theorem lp13 {A1 A2 A3 A4 A5 A6 A7 A8 A9 A10 A11 A12 A13 : Type} (W : Nat → A1 → A2 → A3 → A4 → A5 → A6 → A7 → A8 → A9 → A10 → A11 → A12 → A13 → Prop) (I : A1 → A2 → A3 → A4 → A5 → A6 → A7 → A8 → A9 → A10 → A11 → A12 → A13 → Prop) (μ : A1 → A2 → A3 → A4 → A5 → A6 → A7 → A8 → A9 → A10 → A11 → A12 → A13 → Nat) (hs : ∀ (n : Nat) (a1 : A1) (a2 : A2) (a3 : A3) (a4 : A4) (a5 : A5) (a6 : A6) (a7 : A7) (a8 : A8) (a9 : A9) (a10 : A10) (a11 : A11) (a12 : A12) (a13 : A13), I a1 a2 a3 a4 a5 a6 a7 a8 a9 a10 a11 a12 a13 → (∀ (b1 : A1) (b2 : A2) (b3 : A3) (b4 : A4) (b5 : A5) (b6 : A6) (b7 : A7) (b8 : A8) (b9 : A9) (b10 : A10) (b11 : A11) (b12 : A12) (b13 : A13), I b1 b2 b3 b4 b5 b6 b7 b8 b9 b10 b11 b12 b13 → μ b1 b2 b3 b4 b5 b6 b7 b8 b9 b10 b11 b12 b13 < μ a1 a2 a3 a4 a5 a6 a7 a8 a9 a10 a11 a12 a13 → W n b1 b2 b3 b4 b5 b6 b7 b8 b9 b10 b11 b12 b13) → W (n + 1) a1 a2 a3 a4 a5 a6 a7 a8 a9 a10 a11 a12 a13) (a1 : A1) (a2 : A2) (a3 : A3) (a4 : A4) (a5 : A5) (a6 : A6) (a7 : A7) (a8 : A8) (a9 : A9) (a10 : A10) (a11 : A11) (a12 : A12) (a13 : A13) (h : I a1 a2 a3 a4 a5 a6 a7 a8 a9 a10 a11 a12 a13) : ∃ n, W n a1 a2 a3 a4 a5 a6 a7 a8 a9 a10 a11 a12 a13 :=
  loop_m (σ := A1 × A2 × A3 × A4 × A5 × A6 × A7 × A8 × A9 × A10 × A11 × A12 × A13) (fun n s => W n s.1 s.2.1 s.2.2.1 s.2.2.2.1 s.2.2.2.2.1 s.2.2.2.2.2.1 s.2.2.2.2.2.2.1 s.2.2.2.2.2.2.2.1 s.2.2.2.2.2.2.2.2.1 s.2.2.2.2.2.2.2.2.2.1 s.2.2.2.2.2.2.2.2.2.2.1 s.2.2.2.2.2.2.2.2.2.2.2.1 s.2.2.2.2.2.2.2.2.2.2.2.2) (fun s => I s.1 s.2.1 s.2.2.1 s.2.2.2.1 s.2.2.2.2.1 s.2.2.2.2.2.1 s.2.2.2.2.2.2.1 s.2.2.2.2.2.2.2.1 s.2.2.2.2.2.2.2.2.1 s.2.2.2.2.2.2.2.2.2.1 s.2.2.2.2.2.2.2.2.2.2.1 s.2.2.2.2.2.2.2.2.2.2.2.1 s.2.2.2.2.2.2.2.2.2.2.2.2) (fun s => μ s.1 s.2.1 s.2.2.1 s.2.2.2.1 s.2.2.2.2.1 s.2.2.2.2.2.1 s.2.2.2.2.2.2.1 s.2.2.2.2.2.2.2.1 s.2.2.2.2.2.2.2.2.1 s.2.2.2.2.2.2.2.2.2.1 s.2.2.2.2.2.2.2.2.2.2.1 s.2.2.2.2.2.2.2.2.2.2.2.1 s.2.2.2.2.2.2.2.2.2.2.2.2) (fun n s hI hk => hs n s.1 s.2.1 s.2.2.1 s.2.2.2.1 s.2.2.2.2.1 s.2.2.2.2.2.1 s.2.2.2.2.2.2.1 s.2.2.2.2.2.2.2.1 s.2.2.2.2.2.2.2.2.1 s.2.2.2.2.2.2.2.2.2.1 s.2.2.2.2.2.2.2.2.2.2.1 s.2.2.2.2.2.2.2.2.2.2.2.1 s.2.2.2.2.2.2.2.2.2.2.2.2 hI (fun b1 b2 b3 b4 b5 b6 b7 b8 b9 b10 b11 b12 b13 h9 hm => hk (b1, b2, b3, b4, b5, b6, b7, b8, b9, b10, b11, b12, b13) h9 hm)) (a1, a2, a3, a4, a5, a6, a7, a8, a9, a10, a11, a12, a13) h
theorem lp14 {A1 A2 A3 A4 A5 A6 A7 A8 A9 A10 A11 A12 A13 A14 : Type} (W : Nat → A1 → A2 → A3 → A4 → A5 → A6 → A7 → A8 → A9 → A10 → A11 → A12 → A13 → A14 → Prop) (I : A1 → A2 → A3 → A4 → A5 → A6 → A7 → A8 → A9 → A10 → A11 → A12 → A13 → A14 → Prop) (μ : A1 → A2 → A3 → A4 → A5 → A6 → A7 → A8 → A9 → A10 → A11 → A12 → A13 → A14 → Nat) (hs : ∀ (n : Nat) (a1 : A1) (a2 : A2) (a3 : A3) (a4 : A4) (a5 : A5) (a6 : A6) (a7 : A7) (a8 : A8) (a9 : A9) (a10 : A10) (a11 : A11) (a12 : A12) (a13 : A13) (a14 : A14), I a1 a2 a3 a4 a5 a6 a7 a8 a9 a10 a11 a12 a13 a14 → (∀ (b1 : A1) (b2 : A2) (b3 : A3) (b4 : A4) (b5 : A5) (b6 : A6) (b7 : A7) (b8 : A8) (b9 : A9) (b10 : A10) (b11 : A11) (b12 : A12) (b13 : A13) (b14 : A14), I b1 b2 b3 b4 b5 b6 b7 b8 b9 b10 b11 b12 b13 b14 → μ b1 b2 b3 b4 b5 b6 b7 b8 b9 b10 b11 b12 b13 b14 < μ a1 a2 a3 a4 a5 a6 a7 a8 a9 a10 a11 a12 a13 a14 → W n b1 b2 b3 b4 b5 b6 b7 b8 b9 b10 b11 b12 b13 b14) → W (n + 1) a1 a2 a3 a4 a5 a6 a7 a8 a9 a10 a11 a12 a13 a14) (a1 : A1) (a2 : A2) (a3 : A3) (a4 : A4) (a5 : A5) (a6 : A6) (a7 : A7) (a8 : A8) (a9 : A9) (a10 : A10) (a11 : A11) (a12 : A12) (a13 : A13) (a14 : A14) (h : I a1 a2 a3 a4 a5 a6 a7 a8 a9 a10 a11 a12 a13 a14) : ∃ n, W n a1 a2 a3 a4 a5 a6 a7 a8 a9 a10 a11 a12 a13 a14 :=
  loop_m (σ := A1 × A2 × A3 × A4 × A5 × A6 × A7 × A8 × A9 × A10 × A11 × A12 × A13 × A14) (fun n s => W n s.1 s.2.1 s.2.2.1 s.2.2.2.1 s.2.2.2.2.1 s.2.2.2.2.2.1 s.2.2.2.2.2.2.1 s.2.2.2.2.2.2.2.1 s.2.2.2.2.2.2.2.2.1 s.2.2.2.2.2.2.2.2.2.1 s.2.2.2.2.2.2.2.2.2.2.1 s.2.2.2.2.2.2.2.2.2.2.2.1 s.2.2.2.2.2.2.2.2.2.2.2.2.1 s.2.2.2.2.2.2.2.2.2.2.2.2.2) (fun s => I s.1 s.2.1 s.2.2.1 s.2.2.2.1 s.2.2.2.2.1 s.2.2.2.2.2.1 s.2.2.2.2.2.2.1 s.2.2.2.2.2.2.2.1 s.2.2.2.2.2.2.2.2.1 s.2.2.2.2.2.2.2.2.2.1 s.2.2.2.2.2.2.2.2.2.2.1 s.2.2.2.2.2.2.2.2.2.2.2.1 s.2.2.2.2.2.2.2.2.2.2.2.2.1 s.2.2.2.2.2.2.2.2.2.2.2.2.2) (fun s => μ s.1 s.2.1 s.2.2.1 s.2.2.2.1 s.2.2.2.2.1 s.2.2.2.2.2.1 s.2.2.2.2.2.2.1 s.2.2.2.2.2.2.2.1 s.2.2.2.2.2.2.2.2.1 s.2.2.2.2.2.2.2.2.2.1 s.2.2.2.2.2.2.2.2.2.2.1 s.2.2.2.2.2.2.2.2.2.2.2.1 s.2.2.2.2.2.2.2.2.2.2.2.2.1 s.2.2.2.2.2.2.2.2.2.2.2.2.2) (fun n s hI hk => hs n s.1 s.2.1 s.2.2.1 s.2.2.2.1 s.2.2.2.2.1 s.2.2.2.2.2.1 s.2.2.2.2.2.2.1 s.2.2.2.2.2.2.2.1 s.2.2.2.2.2.2.2.2.1 s.2.2.2.2.2.2.2.2.2.1 s.2.2.2.2.2.2.2.2.2.2.1 s.2.2.2.2.2.2.2.2.2.2.2.1 s.2.2.2.2.2.2.2.2.2.2.2.2.1 s.2.2.2.2.2.2.2.2.2.2.2.2.2 hI (fun b1 b2 b3 b4 b5 b6 b7 b8 b9 b10 b11 b12 b13 b14 h9 hm => hk (b1, b2, b3, b4, b5, b6, b7, b8, b9, b10, b11, b12, b13, b14) h9 hm)) (a1, a2, a3, a4, a5, a6, a7, a8, a9, a10, a11, a12, a13, a14) h
theorem lp15 {A1 A2 A3 A4 A5 A6 A7 A8 A9 A10 A11 A12 A13 A14 A15 : Type} (W : Nat → A1 → A2 → A3 → A4 → A5 → A6 → A7 → A8 → A9 → A10 → A11 → A12 → A13 → A14 → A15 → Prop) (I : A1 → A2 → A3 → A4 → A5 → A6 → A7 → A8 → A9 → A10 → A11 → A12 → A13 → A14 → A15 → Prop) (μ : A1 → A2 → A3 → A4 → A5 → A6 → A7 → A8 → A9 → A10 → A11 → A12 → A13 → A14 → A15 → Nat) (hs : ∀ (n : Nat) (a1 : A1) (a2 : A2) (a3 : A3) (a4 : A4) (a5 : A5) (a6 : A6) (a7 : A7) (a8 : A8) (a9 : A9) (a10 : A10) (a11 : A11) (a12 : A12) (a13 : A13) (a14 : A14) (a15 : A15), I a1 a2 a3 a4 a5 a6 a7 a8 a9 a10 a11 a12 a13 a14 a15 → (∀ (b1 : A1) (b2 : A2) (b3 : A3) (b4 : A4) (b5 : A5) (b6 : A6) (b7 : A7) (b8 : A8) (b9 : A9) (b10 : A10) (b11 : A11) (b12 : A12) (b13 : A13) (b14 : A14) (b15 : A15), I b1 b2 b3 b4 b5 b6 b7 b8 b9 b10 b11 b12 b13 b14 b15 → μ b1 b2 b3 b4 b5 b6 b7 b8 b9 b10 b11 b12 b13 b14 b15 < μ a1 a2 a3 a4 a5 a6 a7 a8 a9 a10 a11 a12 a13 a14 a15 → W n b1 b2 b3 b4 b5 b6 b7 b8 b9 b10 b11 b12 b13 b14 b15) → W (n + 1) a1 a2 a3 a4 a5 a6 a7 a8 a9 a10 a11 a12 a13 a14 a15) (a1 : A1) (a2 : A2) (a3 : A3) (a4 : A4) (a5 : A5) (a6 : A6) (a7 : A7) (a8 : A8) (a9 : A9) (a10 : A10) (a11 : A11) (a12 : A12) (a13 : A13) (a14 : A14) (a15 : A15) (h : I a1 a2 a3 a4 a5 a6 a7 a8 a9 a10 a11 a12 a13 a14 a15) : ∃ n, W n a1 a2 a3 a4 a5 a6 a7 a8 a9 a10 a11 a12 a13 a14 a15 :=
  loop_m (σ := A1 × A2 × A3 × A4 × A5 × A6 × A7 × A8 × A9 × A10 × A11 × A12 × A13 × A14 × A15) (fun n s => W n s.1 s.2.1 s.2.2.1 s.2.2.2.1 s.2.2.2.2.1 s.2.2.2.2.2.1 s.2.2.2.2.2.2.1 s.2.2.2.2.2.2.2.1 s.2.2.2.2.2.2.2.2.1 s.2.2.2.2.2.2.2.2.2.1 s.2.2.2.2.2.2.2.2.2.2.1 s.2.2.2.2.2.2.2.2.2.2.2.1 s.2.2.2.2.2.2.2.2.2.2.2.2.1 s.2.2.2.2.2.2.2.2.2.2.2.2.2.1 s.2.2.2.2.2.2.2.2.2.2.2.2.2.2) (fun s => I s.1 s.2.1 s.2.2.1 s.2.2.2.1 s.2.2.2.2.1 s.2.2.2.2.2.1 s.2.2.2.2.2.2.1 s.2.2.2.2.2.2.2.1 s.2.2.2.2.2.2.2.2.1 s.2.2.2.2.2.2.2.2.2.1 s.2.2.2.2.2.2.2.2.2.2.1 s.2.2.2.2.2.2.2.2.2.2.2.1 s.2.2.2.2.2.2.2.2.2.2.2.2.1 s.2.2.2.2.2.2.2.2.2.2.2.2.2.1 s.2.2.2.2.2.2.2.2.2.2.2.2.2.2) (fun s => μ s.1 s.2.1 s.2.2.1 s.2.2.2.1 s.2.2.2.2.1 s.2.2.2.2.2.1 s.2.2.2.2.2.2.1 s.2.2.2.2.2.2.2.1 s.2.2.2.2.2.2.2.2.1 s.2.2.2.2.2.2.2.2.2.1 s.2.2.2.2.2.2.2.2.2.2.1 s.2.2.2.2.2.2.2.2.2.2.2.1 s.2.2.2.2.2.2.2.2.2.2.2.2.1 s.2.2.2.2.2.2.2.2.2.2.2.2.2.1 s.2.2.2.2.2.2.2.2.2.2.2.2.2.2) (fun n s hI hk => hs n s.1 s.2.1 s.2.2.1 s.2.2.2.1 s.2.2.2.2.1 s.2.2.2.2.2.1 s.2.2.2.2.2.2.1 s.2.2.2.2.2.2.2.1 s.2.2.2.2.2.2.2.2.1 s.2.2.2.2.2.2.2.2.2.1 s.2.2.2.2.2.2.2.2.2.2.1 s.2.2.2.2.2.2.2.2.2.2.2.1 s.2.2.2.2.2.2.2.2.2.2.2.2.1 s.2.2.2.2.2.2.2.2.2.2.2.2.2.1 s.2.2.2.2.2.2.2.2.2.2.2.2.2.2 hI (fun b1 b2 b3 b4 b5 b6 b7 b8 b9 b10 b11 b12 b13 b14 b15 h9 hm => hk (b1, b2, b3, b4, b5, b6, b7, b8, b9, b10, b11, b12, b13, b14, b15) h9 hm)) (a1, a2, a3, a4, a5, a6, a7, a8, a9, a10, a11, a12, a13, a14, a15) h
theorem lp16 {A1 A2 A3 A4 A5 A6 A7 A8 A9 A10 A11 A12 A13 A14 A15 A16 : Type} (W : Nat → A1 → A2 → A3 → A4 → A5 → A6 → A7 → A8 → A9 → A10 → A11 → A12 → A13 → A14 → A15 → A16 → Prop) (I : A1 → A2 → A3 → A4 → A5 → A6 → A7 → A8 → A9 → A10 → A11 → A12 → A13 → A14 → A15 → A16 → Prop) (μ : A1 → A2 → A3 → A4 → A5 → A6 → A7 → A8 → A9 → A10 → A11 → A12 → A13 → A14 → A15 → A16 → Nat) (hs : ∀ (n : Nat) (a1 : A1) (a2 : A2) (a3 : A3) (a4 : A4) (a5 : A5) (a6 : A6) (a7 : A7) (a8 : A8) (a9 : A9) (a10 : A10) (a11 : A11) (a12 : A12) (a13 : A13) (a14 : A14) (a15 : A15) (a16 : A16), I a1 a2 a3 a4 a5 a6 a7 a8 a9 a10 a11 a12 a13 a14 a15 a16 → (∀ (b1 : A1) (b2 : A2) (b3 : A3) (b4 : A4) (b5 : A5) (b6 : A6) (b7 : A7) (b8 : A8) (b9 : A9) (b10 : A10) (b11 : A11) (b12 : A12) (b13 : A13) (b14 : A14) (b15 : A15) (b16 : A16), I b1 b2 b3 b4 b5 b6 b7 b8 b9 b10 b11 b12 b13 b14 b15 b16 → μ b1 b2 b3 b4 b5 b6 b7 b8 b9 b10 b11 b12 b13 b14 b15 b16 < μ a1 a2 a3 a4 a5 a6 a7 a8 a9 a10 a11 a12 a13 a14 a15 a16 → W n b1 b2 b3 b4 b5 b6 b7 b8 b9 b10 b11 b12 b13 b14 b15 b16) → W (n + 1) a1 a2 a3 a4 a5 a6 a7 a8 a9 a10 a11 a12 a13 a14 a15 a16) (a1 : A1) (a2 : A2) (a3 : A3) (a4 : A4) (a5 : A5) (a6 : A6) (a7 : A7) (a8 : A8) (a9 : A9) (a10 : A10) (a11 : A11) (a12 : A12) (a13 : A13) (a14 : A14) (a15 : A15) (a16 : A16) (h : I a1 a2 a3 a4 a5 a6 a7 a8 a9 a10 a11 a12 a13 a14 a15 a16) : ∃ n, W n a1 a2 a3 a4 a5 a6 a7 a8 a9 a10 a11 a12 a13 a14 a15 a16 :=
  loop_m (σ := A1 × A2 × A3 × A4 × A5 × A6 × A7 × A8 × A9 × A10 × A11 × A12 × A13 × A14 × A15 × A16) (fun n s => W n s.1 s.2.1 s.2.2.1 s.2.2.2.1 s.2.2.2.2.1 s.2.2.2.2.2.1 s.2.2.2.2.2.2.1 s.2.2.2.2.2.2.2.1 s.2.2.2.2.2.2.2.2.1 s.2.2.2.2.2.2.2.2.2.1 s.2.2.2.2.2.2.2.2.2.2.1 s.2.2.2.2.2.2.2.2.2.2.2.1 s.2.2.2.2.2.2.2.2.2.2.2.2.1 s.2.2.2.2.2.2.2.2.2.2.2.2.2.1 s.2.2.2.2.2.2.2.2.2.2.2.2.2.2.1 s.2.2.2.2.2.2.2.2.2.2.2.2.2.2.2) (fun s => I s.1 s.2.1 s.2.2.1 s.2.2.2.1 s.2.2.2.2.1 s.2.2.2.2.2.1 s.2.2.2.2.2.2.1 s.2.2.2.2.2.2.2.1 s.2.2.2.2.2.2.2.2.1 s.2.2.2.2.2.2.2.2.2.1 s.2.2.2.2.2.2.2.2.2.2.1 s.2.2.2.2.2.2.2.2.2.2.2.1 s.2.2.2.2.2.2.2.2.2.2.2.2.1 s.2.2.2.2.2.2.2.2.2.2.2.2.2.1 s.2.2.2.2.2.2.2.2.2.2.2.2.2.2.1 s.2.2.2.2.2.2.2.2.2.2.2.2.2.2.2) (fun s => μ s.1 s.2.1 s.2.2.1 s.2.2.2.1 s.2.2.2.2.1 s.2.2.2.2.2.1 s.2.2.2.2.2.2.1 s.2.2.2.2.2.2.2.1 s.2.2.2.2.2.2.2.2.1 s.2.2.2.2.2.2.2.2.2.1 s.2.2.2.2.2.2.2.2.2.2.1 s.2.2.2.2.2.2.2.2.2.2.2.1 s.2.2.2.2.2.2.2.2.2.2.2.2.1 s.2.2.2.2.2.2.2.2.2.2.2.2.2.1 s.2.2.2.2.2.2.2.2.2.2.2.2.2.2.1 s.2.2.2.2.2.2.2.2.2.2.2.2.2.2.2) (fun n s hI hk => hs n s.1 s.2.1 s.2.2.1 s.2.2.2.1 s.2.2.2.2.1 s.2.2.2.2.2.1 s.2.2.2.2.2.2.1 s.2.2.2.2.2.2.2.1 s.2.2.2.2.2.2.2.2.1 s.2.2.2.2.2.2.2.2.2.1 s.2.2.2.2.2.2.2.2.2.2.1 s.2.2.2.2.2.2.2.2.2.2.2.1 s.2.2.2.2.2.2.2.2.2.2.2.2.1 s.2.2.2.2.2.2.2.2.2.2.2.2.2.1 s.2.2.2.2.2.2.2.2.2.2.2.2.2.2.1 s.2.2.2.2.2.2.2.2.2.2.2.2.2.2.2 hI (fun b1 b2 b3 b4 b5 b6 b7 b8 b9 b10 b11 b12 b13 b14 b15 b16 h9 hm => hk (b1, b2, b3, b4, b5, b6, b7, b8, b9, b10, b11, b12, b13, b14, b15, b16) h9 hm)) (a1, a2, a3, a4, a5, a6, a7, a8, a9, a10, a11, a12, a13, a14, a15, a16) h
theorem pk_least (P : Nat → Prop) (h : ∃ k, P k) : ∃ k, P k ∧ ∀ j, j < k → ¬ P j := by
  obtain ⟨k, hk⟩ := h
  induction k using Nat.strongRecOn with
  | ind k ih =>
    by_cases e : ∃ j, j < k ∧ P j
    · obtain ⟨j, hj, pj⟩ := e
      exact ih j hj pj
    · exact ⟨k, hk, fun j hj pj => e ⟨j, hj, pj⟩⟩
theorem rp1 {ρ A1 : Type} (W : Nat → (ρ → Prop) → A1 → Prop) (ok : A1 → Prop) (μ : A1 → Nat) (val : A1 → ρ)
    (hs : ∀ (d : Nat) (post : ρ → Prop) (a1 : A1), ok a1 → post (val a1) → (∀ (post' : ρ → Prop) (b1 : A1), ok b1 → μ b1 < μ a1 → post' (val b1) → W d post' b1) → W (d + 1) post a1) :
    ∀ (d : Nat) (post : ρ → Prop) (a1 : A1), ok a1 → μ a1 < d → post (val a1) → W d post a1 := by
  intro d
  induction d with
  | zero => intro post a1 _ h; omega
  | succ d ih =>
    intro post a1 ho hm hp
    exact hs d post a1 ho hp (fun post' b1 ho' hm' hp' => ih post' b1 ho' (by omega) hp')
theorem rp2 {ρ A1 A2 : Type} (W : Nat → (ρ → Prop) → A1 → A2 → Prop) (ok : A1 → A2 → Prop) (μ : A1 → A2 → Nat) (val : A1 → A2 → ρ)
    (hs : ∀ (d : Nat) (post : ρ → Prop) (a1 : A1) (a2 : A2), ok a1 a2 → post (val a1 a2) → (∀ (post' : ρ → Prop) (b1 : A1) (b2 : A2), ok b1 b2 → μ b1 b2 < μ a1 a2 → post' (val b1 b2) → W d post' b1 b2) → W (d + 1) post a1 a2) :
    ∀ (d : Nat) (post : ρ → Prop) (a1 : A1) (a2 : A2), ok a1 a2 → μ a1 a2 < d → post (val a1 a2) → W d post a1 a2 := by
  intro d
  induction d with
  | zero => intro post a1 a2 _ h; omega
  | succ d ih =>
    intro post a1 a2 ho hm hp
    exact hs d post a1 a2 ho hp (fun post' b1 b2 ho' hm' hp' => ih post' b1 b2 ho' (by omega) hp')
theorem rp3 {ρ A1 A2 A3 : Type} (W : Nat → (ρ → Prop) → A1 → A2 → A3 → Prop) (ok : A1 → A2 → A3 → Prop) (μ : A1 → A2 → A3 → Nat) (val : A1 → A2 → A3 → ρ)
    (hs : ∀ (d : Nat) (post : ρ → Prop) (a1 : A1) (a2 : A2) (a3 : A3), ok a1 a2 a3 → post (val a1 a2 a3) → (∀ (post' : ρ → Prop) (b1 : A1) (b2 : A2) (b3 : A3), ok b1 b2 b3 → μ b1 b2 b3 < μ a1 a2 a3 → post' (val b1 b2 b3) → W d post' b1 b2 b3) → W (d + 1) post a1 a2 a3) :
    ∀ (d : Nat) (post : ρ → Prop) (a1 : A1) (a2 : A2) (a3 : A3), ok a1 a2 a3 → μ a1 a2 a3 < d → post (val a1 a2 a3) → W d post a1 a2 a3 := by
  intro d
  induction d with
  | zero => intro post a1 a2 a3 _ h; omega
  | succ d ih =>
    intro post a1 a2 a3 ho hm hp
    exact hs d post a1 a2 a3 ho hp (fun post' b1 b2 b3 ho' hm' hp' => ih post' b1 b2 b3 ho' (by omega) hp')
theorem rp4 {ρ A1 A2 A3 A4 : Type} (W : Nat → (ρ → Prop) → A1 → A2 → A3 → A4 → Prop) (ok : A1 → A2 → A3 → A4 → Prop) (μ : A1 → A2 → A3 → A4 → Nat) (val : A1 → A2 → A3 → A4 → ρ)
    (hs : ∀ (d : Nat) (post : ρ → Prop) (a1 : A1) (a2 : A2) (a3 : A3) (a4 : A4), ok a1 a2 a3 a4 → post (val a1 a2 a3 a4) → (∀ (post' : ρ → Prop) (b1 : A1) (b2 : A2) (b3 : A3) (b4 : A4), ok b1 b2 b3 b4 → μ b1 b2 b3 b4 < μ a1 a2 a3 a4 → post' (val b1 b2 b3 b4) → W d post' b1 b2 b3 b4) → W (d + 1) post a1 a2 a3 a4) :
    ∀ (d : Nat) (post : ρ → Prop) (a1 : A1) (a2 : A2) (a3 : A3) (a4 : A4), ok a1 a2 a3 a4 → μ a1 a2 a3 a4 < d → post (val a1 a2 a3 a4) → W d post a1 a2 a3 a4 := by
  intro d
  induction d with
  | zero => intro post a1 a2 a3 a4 _ h; omega
  | succ d ih =>
    intro post a1 a2 a3 a4 ho hm hp
    exact hs d post a1 a2 a3 a4 ho hp (fun post' b1 b2 b3 b4 ho' hm' hp' => ih post' b1 b2 b3 b4 ho' (by omega) hp')
theorem rp5 {ρ A1 A2 A3 A4 A5 : Type} (W : Nat → (ρ → Prop) → A1 → A2 → A3 → A4 → A5 → Prop) (ok : A1 → A2 → A3 → A4 → A5 → Prop) (μ : A1 → A2 → A3 → A4 → A5 → Nat) (val : A1 → A2 → A3 → A4 → A5 → ρ)
    (hs : ∀ (d : Nat) (post : ρ → Prop) (a1 : A1) (a2 : A2) (a3 : A3) (a4 : A4) (a5 : A5), ok a1 a2 a3 a4 a5 → post (val a1 a2 a3 a4 a5) → (∀ (post' : ρ → Prop) (b1 : A1) (b2 : A2) (b3 : A3) (b4 : A4) (b5 : A5), ok b1 b2 b3 b4 b5 → μ b1 b2 b3 b4 b5 < μ a1 a2 a3 a4 a5 → post' (val b1 b2 b3 b4 b5) → W d post' b1 b2 b3 b4 b5) → W (d + 1) post a1 a2 a3 a4 a5) :
    ∀ (d : Nat) (post : ρ → Prop) (a1 : A1) (a2 : A2) (a3 : A3) (a4 : A4) (a5 : A5), ok a1 a2 a3 a4 a5 → μ a1 a2 a3 a4 a5 < d → post (val a1 a2 a3 a4 a5) → W d post a1 a2 a3 a4 a5 := by
  intro d
  induction d with
  | zero => intro post a1 a2 a3 a4 a5 _ h; omega
  | succ d ih =>
    intro post a1 a2 a3 a4 a5 ho hm hp
    exact hs d post a1 a2 a3 a4 a5 ho hp (fun post' b1 b2 b3 b4 b5 ho' hm' hp' => ih post' b1 b2 b3 b4 b5 ho' (by omega) hp')
theorem rp6 {ρ A1 A2 A3 A4 A5 A6 : Type} (W : Nat → (ρ → Prop) → A1 → A2 → A3 → A4 → A5 → A6 → Prop) (ok : A1 → A2 → A3 → A4 → A5 → A6 → Prop) (μ : A1 → A2 → A3 → A4 → A5 → A6 → Nat) (val : A1 → A2 → A3 → A4 → A5 → A6 → ρ)
    (hs : ∀ (d : Nat) (post : ρ → Prop) (a1 : A1) (a2 : A2) (a3 : A3) (a4 : A4) (a5 : A5) (a6 : A6), ok a1 a2 a3 a4 a5 a6 → post (val a1 a2 a3 a4 a5 a6) → (∀ (post' : ρ → Prop) (b1 : A1) (b2 : A2) (b3 : A3) (b4 : A4) (b5 : A5) (b6 : A6), ok b1 b2 b3 b4 b5 b6 → μ b1 b2 b3 b4 b5 b6 < μ a1 a2 a3 a4 a5 a6 → post' (val b1 b2 b3 b4 b5 b6) → W d post' b1 b2 b3 b4 b5 b6) → W (d + 1) post a1 a2 a3 a4 a5 a6) :
    ∀ (d : Nat) (post : ρ → Prop) (a1 : A1) (a2 : A2) (a3 : A3) (a4 : A4) (a5 : A5) (a6 : A6), ok a1 a2 a3 a4 a5 a6 → μ a1 a2 a3 a4 a5 a6 < d → post (val a1 a2 a3 a4 a5 a6) → W d post a1 a2 a3 a4 a5 a6 := by
  intro d
  induction d with
  | zero => intro post a1 a2 a3 a4 a5 a6 _ h; omega
  | succ d ih =>
    intro post a1 a2 a3 a4 a5 a6 ho hm hp
    exact hs d post a1 a2 a3 a4 a5 a6 ho hp (fun post' b1 b2 b3 b4 b5 b6 ho' hm' hp' => ih post' b1 b2 b3 b4 b5 b6 ho' (by omega) hp')
theorem rec_p {σ ρ : Type} (W : Nat → (ρ → Prop) → σ → Prop) (ok : σ → Prop) (μ : σ → Nat) (val : σ → ρ)
    (hs : ∀ d s post, ok s → post (val s) → (∀ s' post', ok s' → μ s' < μ s → post' (val s') → W d post' s') → W (d + 1) post s) :
    ∀ d s post, ok s → μ s < d → post (val s) → W d post s := by
  intro d
  induction d with
  | zero => intro s post _ h; omega
  | succ d ih =>
    intro s post ho hm hp
    exact hs d s post ho hp (fun s' post' ho' hm' hp' => ih s' post' ho' (by omega) hp')
theorem rec_q {σ ρ : Type} (W : Nat → (ρ → Prop) → σ → Prop) (ok : σ → Prop) (μ : σ → Nat) (Q : σ → ρ → Prop)
    (hs : ∀ d s post, ok s → (∀ r, Q s r → post r) → (∀ s' post', ok s' → μ s' < μ s → (∀ r, Q s' r → post' r) → W d post' s') → W (d + 1) post s) :
    ∀ d s post, ok s → μ s < d → (∀ r, Q s r → post r) → W d post s := by
  intro d
  induction d with
  | zero => intro s post _ h; omega
  | succ d ih =>
    intro s post ho hm hp
    exact hs d s post ho hp (fun s' post' ho' hm' hp' => ih s' post' ho' (by omega) hp')
def bx_sum (f : Nat → Int32) : Nat → Int32
  | 0 => 0
  | n + 1 => bx_sum f n + f n
theorem ek_u {A : Prop} {B : Nat → Prop} {k N : Nat} (hk : k < N) (h : B k) : (some k = none → A) ∧ (∀ y : Nat, some k = some y → (y < N ∧ B y)) :=
  ⟨fun z => absurd z (Option.some_ne_none k), fun _ e => (by cases e; exact ⟨hk, h⟩)⟩
theorem ek_nu {A : Prop} {B : Nat → Prop} (h : A) : ((none : Option Nat) = none → A) ∧ (∀ y : Nat, (none : Option Nat) = some y → B y) :=
  ⟨fun _ => h, fun _ e => (by cases e)⟩
theorem ek_if {c d A B : Prop} (e : c ↔ d) (f : d → A) (g : ¬ d → B) : (c → A) ∧ (¬ c → B) :=
  ⟨fun z => f (e.mp z), fun z => g (fun y => z (e.mpr y))⟩
theorem ek_v {α : Sort _} {P : α → Prop} {a b : α} (e : a = b) (h : P b) : P a := e ▸ h
theorem co_some {x : Option Nat} {A : Prop} {B : Nat → Prop} (i : Nat) (h : B i) (hx : x = some i := by rfl) : (x = none → A) ∧ (∀ y : Nat, x = some y → B y) := by
  subst hx
  exact ⟨fun e => (nomatch e), fun y e => Option.some.inj e ▸ h⟩
theorem co_none {x : Option Nat} {A : Prop} {B : Nat → Prop} (h : A) (hx : x = none := by rfl) : (x = none → A) ∧ (∀ y : Nat, x = some y → B y) := by
  subst hx
  exact ⟨fun _ => h, fun y e => (nomatch e)⟩
theorem co_any {x : Option Nat} {A : Prop} {B : Nat → Prop} (hn : x = none → A) (hs : ∀ i : Nat, x = some i → B i) : (x = none → A) ∧ (∀ y : Nat, x = some y → B y) := ⟨hn, hs⟩
theorem co_2 {P : Nat → Prop} (h0 : P 0) (h1 : P 1) {i : Nat} (hi : i < 2) : P i :=
  match i, hi with
  | 0, _ => h0
  | 1, _ => h1
theorem co_3 {P : Nat → Prop} (h0 : P 0) (h1 : P 1) (h2 : P 2) {i : Nat} (hi : i < 3) : P i :=
  match i, hi with
  | 0, _ => h0
  | 1, _ => h1
  | 2, _ => h2
theorem co_4 {P : Nat → Prop} (h0 : P 0) (h1 : P 1) (h2 : P 2) (h3 : P 3) {i : Nat} (hi : i < 4) : P i :=
  match i, hi with
  | 0, _ => h0
  | 1, _ => h1
  | 2, _ => h2
  | 3, _ => h3
theorem co_dec {N : Nat} {P : Nat → Prop} [DecidablePred P] (h : (List.range N).all (fun i => decide (P i)) = true) {i : Nat} (hi : i < N) : P i := by
  have := List.all_eq_true.mp h i (List.mem_range.mpr hi)
  exact of_decide_eq_true this
theorem co_tab {α : Type} {l : List α} {d : α} {P : α → Prop} (h : ∀ a, a ∈ l → P a) {i : Nat} (hi : i < l.length) : P (l.getD i d) := by
  rw [List.getD_eq_getElem?_getD, List.getElem?_eq_getElem hi]
  exact h _ (List.getElem_mem hi)
theorem pk_mu {x : Int32} {L : Nat} (h0 : ¬ x < 0) (h : ¬ nI L ≤ x) (hL : L < 2 ^ 31) : ∃ j : Nat, j < L ∧ x = nI j ∧ x + 1 = nI (j + 1) ∧ x.toNatClampNeg = j ∧ L - (x + 1).toNatClampNeg < L - x.toNatClampNeg := by
  obtain ⟨j, hj, rfl⟩ := nI_of h0
  have hl : j < L := Nat.not_le.mp fun q => h (nI_le q hj)
  refine ⟨j, hl, rfl, nI_1 j, nI_clamp hj, ?_⟩
  rw [nI_1, nI_clamp (by omega), nI_clamp hj]
  omega
theorem op_s {α : Type} {r : Option α} {A : Prop} {B : α → Prop} {y : α} (h : r = some y) (b : B y) : (r = none → A) ∧ ∀ z, r = some z → B z :=
  ⟨fun e => (by rw [h] at e; cases e), fun z e => (by rw [h] at e; cases e; exact b)⟩
def l_holds {α : Type} (a : Nat → Option Nat) (LP : List Nat) (p : Nat → α) (c : Nat) (b : Nat → α) : Prop :=
  ∀ j, j < c → ∃ y, a j = some y ∧ y ∈ LP ∧ p y = b j
theorem l_holds_0 {α : Type} {a : Nat → Option Nat} {LP : List Nat} {p b : Nat → α} : l_holds a LP p 0 b := fun j h => absurd h (Nat.not_lt_zero j)
theorem l_in_new (LP : List Nat) (q : Nat) : q ∈ LP ++ [q] := List.mem_append.mpr (Or.inr (List.mem_singleton.mpr rfl))
def l_sum (b : Nat → Int32) : Nat → Int32
  | 0 => 0
  | k + 1 => l_sum b k + b k
theorem sb_shr0 (x : Int32) : x >>> ((0 : Int32) &&& 31) = x := by
  rw [show ((0 : Int32) &&& 31) = 0 by decide]
  simp
theorem sb_shl0 (x : Int32) : x <<< ((0 : Int32) &&& 31) = x := by
  rw [show ((0 : Int32) &&& 31) = 0 by decide]
  simp
theorem sb_cl0 : (0 : Int32).toNatClampNeg = 0 := by decide
theorem sb_m1 {p : Nat} (h : 0 < p) : nI p + (-1) = nI (p - 1) := by
  obtain ⟨q, rfl⟩ : ∃ q, p = q + 1 := ⟨p - 1, by omega⟩
  exact pk_m1 q
def sb_b (c : Nat) : Int32 := (nI c).toInt8.toInt32
theorem sb_byte : ∀ c, c < 256 → sb_b c &&& 255 = nI c ∧ ((nI c).toUInt32 % 65536).toInt32 = nI c ∧ nI c ≤ 255 := by decide +kernel
def sb_Fit (a : Nat → Int32) : Prop := ∀ j, fits .byte (.int (a j)) = true
def sb_Lat (t : Nat → Nat) (n : Nat) (a : Nat → Int32) : Prop := ∀ j, j < n → t j < 256 ∧ a j = sb_b (t j)
theorem sb_fitB (c : Nat) : fits .byte (.int (sb_b c)) = true := pk_fb _
theorem sb_fit0 : sb_Fit (fun _ => 0) := fun _ => by
  show fits .byte (.int 0) = true
  decide
theorem sb_fitU {a : Nat → Int32} {k : Nat} {x : Int32} (h : sb_Fit a) (hx : fits .byte (.int x) = true) : sb_Fit (upd a k x) := by
  intro j
  by_cases e : j = k
  · subst e
    rw [pk_us]
    exact hx
  · rw [pk_un e]
    exact h j
def sb_cat (t : Nat → Nat) (n : Nat) (s : Nat → Nat) : Nat → Nat := fun j => if j < n then t j else s (j - n)
theorem sb_cat_lo {t s : Nat → Nat} {n j : Nat} (h : j < n) : sb_cat t n s j = t j := if_pos h
theorem sb_cat_hi {t s : Nat → Nat} {n j : Nat} : sb_cat t n s (n + j) = s j := by
  show (if n + j < n then t (n + j) else s (n + j - n)) = s j
  rw [if_neg (by omega), Nat.add_sub_cancel_left]
theorem sb_latPut {t s : Nat → Nat} {n w : Nat} {a a' : Nat → Int32} (h : sb_Lat t n a) (hk : ∀ j, j < n → a' j = a j) (hs : ∀ i, i < w → s i < 256 ∧ a' (n + i) = sb_b (s i)) : sb_Lat (sb_cat t n s) (n + w) a' := by
  intro j hj
  by_cases e : j < n
  · rw [sb_cat_lo e, hk j e]
    exact h j e
  · obtain ⟨i, rfl⟩ : ∃ i, j = n + i := ⟨j - n, by omega⟩
    rw [sb_cat_hi]
    exact hs i (by omega)
theorem sb_latKeep {t : Nat → Nat} {n : Nat} {a a' : Nat → Int32} (h : sb_Lat t n a) (hk : ∀ j, j < n → a' j = a j) : sb_Lat t n a' := fun j hj => by
  rw [hk j hj]
  exact h j hj
def sb_cap (q m : Nat) : Nat := if q ≤ m then m else if 2 * m + 2 < q then q else 2 * m + 2
def sb_Room (q m mc ms : Nat) : Prop := q ≤ m ∨ (1 ≤ mc ∧ sb_cap q m ≤ ms ∧ sb_cap q m ≤ 65536)
theorem sb_cap_ge (q m : Nat) : q ≤ sb_cap q m := by
  unfold sb_cap
  split
  · omega
  · split <;> omega
theorem sb_cap_gem (q m : Nat) : m ≤ sb_cap q m := by
  unfold sb_cap
  split
  · omega
  · split <;> omega
theorem sb_cap_le {q m mc ms : Nat} (hm : m ≤ 65536) (hr : sb_Room q m mc ms) : sb_cap q m ≤ 65536 := by
  rcases hr with h | h
  · rw [sb_cap, if_pos h]
    exact hm
  · exact h.2.2
theorem sb_at {P : Int32 → Prop} {x y : Int32} (e : x = y) (h : P y) : P x := e ▸ h
def sb_dg (w : Nat) : Nat := if w < 10 then 1 else if w < 100 then 2 else if w < 1000 then 3 else if w < 10000 then 4 else if w < 100000 then 5 else if w < 1000000 then 6 else if w < 10000000 then 7 else if w < 100000000 then 8 else if w < 1000000000 then 9 else 10
def sb_dec (v : Nat) : Nat → Nat := fun i => 48 + v / 10 ^ (sb_dg v - 1 - i) % 10
theorem sb_dg_in (w : Nat) : 1 ≤ sb_dg w ∧ sb_dg w ≤ 10 := by
  unfold sb_dg
  constructor <;> (repeat' split) <;> omega
theorem sb_dg100 {w : Nat} (h : 100 ≤ w) (hw : w < 2 ^ 31) : sb_dg w = sb_dg (w / 100) + 2 := by
  rw [sb_dg, sb_dg, if_neg (show ¬ w < 10 by omega), if_neg (show ¬ w < 100 by omega)]
  by_cases h3 : w < 1000
  · rw [if_pos h3, if_pos (show w / 100 < 10 by omega)]
  rw [if_neg h3, if_neg (show ¬ w / 100 < 10 by omega)]
  by_cases h4 : w < 10000
  · rw [if_pos h4, if_pos (show w / 100 < 100 by omega)]
  rw [if_neg h4, if_neg (show ¬ w / 100 < 100 by omega)]
  by_cases h5 : w < 100000
  · rw [if_pos h5, if_pos (show w / 100 < 1000 by omega)]
  rw [if_neg h5, if_neg (show ¬ w / 100 < 1000 by omega)]
  by_cases h6 : w < 1000000
  · rw [if_pos h6, if_pos (show w / 100 < 10000 by omega)]
  rw [if_neg h6, if_neg (show ¬ w / 100 < 10000 by omega)]
  by_cases h7 : w < 10000000
  · rw [if_pos h7, if_pos (show w / 100 < 100000 by omega)]
  rw [if_neg h7, if_neg (show ¬ w / 100 < 100000 by omega)]
  by_cases h8 : w < 100000000
  · rw [if_pos h8, if_pos (show w / 100 < 1000000 by omega)]
  rw [if_neg h8, if_neg (show ¬ w / 100 < 1000000 by omega)]
  by_cases h9 : w < 1000000000
  · rw [if_pos h9, if_pos (show w / 100 < 10000000 by omega)]
  rw [if_neg h9, if_neg (show ¬ w / 100 < 10000000 by omega)]
  rw [if_pos (show w / 100 < 100000000 by omega)]
theorem sb_negT {w : Nat} (h : w < 2 ^ 31) : (-nI w).toInt = -(w : Int) := by
  rw [Int32.toInt_neg, nI_toInt h]
  exact Int.bmod_eq_of_le (by omega) (by omega)
theorem sb_nle {a b : Nat} (ha : a < 2 ^ 31) (hb : b < 2 ^ 31) : -nI a ≤ -nI b ↔ b ≤ a := by
  rw [Int32.le_iff_toInt_le, sb_negT ha, sb_negT hb]
  omega
theorem sb_nlt {a b : Nat} (ha : a < 2 ^ 31) (hb : b < 2 ^ 31) : -nI a < -nI b ↔ b < a := by
  rw [Int32.lt_iff_toInt_lt, sb_negT ha, sb_negT hb]
  omega
theorem sb_cmp {A B : Prop} {x : Int32} (v c : Nat) (f : c ≤ v → A) (g : v < c → B) (hv : v < 2 ^ 31) (hx : x = -nI c := by rfl) (hc : c < 2 ^ 31 := by omega) : (-nI v ≤ x → A) ∧ (¬ -nI v ≤ x → B) := by
  subst hx
  rw [sb_nle hv hc]
  exact ⟨f, fun z => g (by omega)⟩
theorem sb_ndiv {w : Nat} (hw : w < 2 ^ 31) : (-nI w) / 100 = -nI (w / 100) := by
  apply Int32.toInt_inj.mp
  have h100 : (100 : Int32).toInt = 100 := by decide
  rw [Int32.toInt_div, sb_negT hw, h100, sb_negT (by omega), Int.neg_tdiv, Int.tdiv_eq_ediv_of_nonneg (by omega), Int.bmod_eq_of_le (by omega) (by omega)]
  omega
theorem sb_nrem {w : Nat} (hw : w < 2 ^ 31) : (-nI (w / 100)) * 100 - (-nI w) = nI (w % 100) := by
  have h := pk_rem (a := w) (d := 100) hw (by decide) (by decide)
  rw [pk_div hw (by decide) (by decide)] at h
  rw [← h]
  show (-nI (w / 100)) * nI 100 - (-nI w) = nI w - nI (w / 100) * nI 100
  rw [Int32.neg_mul, Int32.sub_neg, Int32.add_comm, ← Int32.sub_eq_add_neg]
end
section
/-! numbers, arrays as functions of naturals, rows for simp -/
def zm_em (f : Nat → Nat) : Nat → Int32 := fun j => nI (f j)
def zm_oi : Option Nat → Int32
  | none => -1
  | some t => nI t
def zm_eo (f : Nat → Option Nat) : Nat → Int32 := fun j => zm_oi (f j)
def zm_eL (f : Nat → Nat) : Nat → Int64 := fun j => lN (f j)
def zm_up (f : Nat → Nat) (k x : Nat) : Nat → Nat := fun j => if j = k then x else f j
def zm_uo (f : Nat → Option Nat) (k : Nat) (x : Option Nat) : Nat → Option Nat := fun j => if j = k then x else f j
theorem zm_em_a (f : Nat → Nat) (j : Nat) : zm_em f j = nI (f j) := rfl
theorem zm_eo_a (f : Nat → Option Nat) (j : Nat) : zm_eo f j = zm_oi (f j) := rfl
theorem zm_eL_a (f : Nat → Nat) (j : Nat) : zm_eL f j = lN (f j) := rfl
theorem zm_oi_n : zm_oi none = -1 := rfl
theorem zm_oi_s (t : Nat) : zm_oi (some t) = nI t := rfl
theorem zm_ups {f : Nat → Nat} {k x : Nat} : zm_up f k x k = x := if_pos rfl
theorem zm_upn {f : Nat → Nat} {k x j : Nat} (h : j ≠ k) : zm_up f k x j = f j := if_neg h
theorem zm_uos {f : Nat → Option Nat} {k : Nat} {x : Option Nat} : zm_uo f k x k = x := if_pos rfl
theorem zm_uon {f : Nat → Option Nat} {k j : Nat} {x : Option Nat} (h : j ≠ k) : zm_uo f k x j = f j := if_neg h
theorem zm_em_u (f : Nat → Nat) (k x : Nat) : upd (zm_em f) k (nI x) = zm_em (zm_up f k x) := by
  funext j
  show (if j = k then nI x else nI (f j)) = nI (if j = k then x else f j)
  split <;> rfl
theorem zm_em_u0 (f : Nat → Nat) (k : Nat) : upd (zm_em f) k 0 = zm_em (zm_up f k 0) := zm_em_u f k 0
theorem zm_b0 : vp_nar .boolean 0 = nI 0 := by rw [nI_0]; rfl
theorem zm_b1 : vp_nar .boolean 1 = nI 1 := by rfl
theorem zm_em_b0 (f : Nat → Nat) (k : Nat) : upd (zm_em f) k (vp_nar .boolean 0) = zm_em (zm_up f k 0) := by rw [zm_b0]; exact zm_em_u f k 0
theorem zm_em_b1 (f : Nat → Nat) (k : Nat) : upd (zm_em f) k (vp_nar .boolean 1) = zm_em (zm_up f k 1) := by rw [zm_b1]; exact zm_em_u f k 1
theorem zm_eo_uo (f : Nat → Option Nat) (k : Nat) (x : Option Nat) : upd (zm_eo f) k (zm_oi x) = zm_eo (zm_uo f k x) := by
  funext j
  show (if j = k then zm_oi x else zm_oi (f j)) = zm_oi (if j = k then x else f j)
  split <;> rfl
theorem zm_eo_u (f : Nat → Option Nat) (k x : Nat) : upd (zm_eo f) k (nI x) = zm_eo (zm_uo f k (some x)) := zm_eo_uo f k (some x)
theorem zm_eo_un (f : Nat → Option Nat) (k : Nat) : upd (zm_eo f) k (-1) = zm_eo (zm_uo f k none) := zm_eo_uo f k none
theorem zm_eL_u (f : Nat → Nat) (k x : Nat) : vp_updL (zm_eL f) k (lN x) = zm_eL (zm_up f k x) := by
  funext j
  show (if j = k then lN x else lN (f j)) = lN (if j = k then x else f j)
  split <;> rfl
theorem zm_eL_u0 (f : Nat → Nat) (k : Nat) : vp_updL (zm_eL f) k 0 = zm_eL (zm_up f k 0) := zm_eL_u f k 0
theorem zm_z : (fun _ : Nat => (0 : Int32)) = zm_em (fun _ => 0) := by funext j; exact nI_0.symm
theorem zm_zo : (fun _ : Nat => (0 : Int32)) = zm_eo (fun _ => some 0) := by funext j; exact nI_0.symm
theorem zm_zL : (fun _ : Nat => (0 : Int64)) = zm_eL (fun _ => 0) := by funext j; rfl
theorem zs_m2 (a : Nat) : nI a * 2 = nI (a * 2) := pk_mul a 2
theorem zs_m4 (a : Nat) : nI a * 4 = nI (a * 4) := pk_mul a 4
theorem zs_m5 (a : Nat) : nI a * 5 = nI (a * 5) := pk_mul a 5
theorem zs_m8 (a : Nat) : nI a * 8 = nI (a * 8) := pk_mul a 8
theorem zs_8m (a : Nat) : 8 * nI a = nI (8 * a) := pk_mul 8 a
theorem zs_d2 {a : Nat} (h : a < 2 ^ 31) : nI a / 2 = nI (a / 2) := pk_div (d := 2) h (by decide) (by decide)
theorem zs_s1 {a : Nat} (h : 1 ≤ a) : nI a - 1 = nI (a - 1) := pk_sub (b := 1) h
theorem zs_in {x n : Nat} (h : x < n) (hn : n < 2 ^ 31) : vp_in (nI x) n = True := eq_true (vp_in_nI h hn)
theorem zs_leT {a b : Nat} (h : a ≤ b) (hb : b < 2 ^ 31) : (nI a ≤ nI b) = True := eq_true (nI_le h hb)
theorem zs_leF {a b : Nat} (h : b < a) (ha : a < 2 ^ 31) : (nI a ≤ nI b) = False := eq_false (nI_ge h ha)
theorem zs_ltT {a b : Nat} (h : a < b) (hb : b < 2 ^ 31) : (nI a < nI b) = True := eq_true (nI_lt h hb)
theorem zs_ltF {a b : Nat} (h : b ≤ a) (ha : a < 2 ^ 31) : (nI a < nI b) = False := eq_false (nI_nlt h ha)
theorem zs_eqT {a b : Nat} (h : a = b) : (nI a = nI b) = True := eq_true (congrArg nI h)
theorem zs_eqF {a b : Nat} (h : a ≠ b) (ha : a < 2 ^ 31) (hb : b < 2 ^ 31) : (nI a = nI b) = False := eq_false (fun z => h ((nI_eq ha hb).mp z))
theorem zs_m1n {t : Nat} (h : t < 2 ^ 31) : ¬ nI t = -1 := by
  intro z
  have e := congrArg Int32.toInt z
  rw [nI_toInt h, show (-1 : Int32).toInt = -1 from by decide] at e
  omega
theorem zs_m1e {t : Nat} (h : t < 2 ^ 31) : (nI t = -1) = False := eq_false (zs_m1n h)
theorem zs_oe {t : Nat} (h : t < 2 ^ 31) : ((-1 : Int32) = nI t) = False := eq_false (fun z => zs_m1n h z.symm)
theorem zs_0lt {t : Nat} (h : t < 2 ^ 31) : (nI t < 0) = False := eq_false (nI_pos h)
theorem zs_e0T {a : Nat} (h : a = 0) : (nI a = 0) = True := by subst h; exact eq_true nI_0
theorem zs_e0F {a : Nat} (h : a ≠ 0) (ha : a < 2 ^ 31) : (nI a = 0) = False := eq_false (nI_ne0 (by omega) ha)
theorem zs_e1T {a : Nat} (h : a = 1) : (nI a = 1) = True := by subst h; exact eq_true rfl
theorem zs_e1F {a : Nat} (h : a ≠ 1) (ha : a < 2 ^ 31) : (nI a = 1) = False := eq_false (fun z => h ((nI_eq (b := 1) ha (by decide)).mp z))
theorem zs_nl0T {a : Nat} (h : a = 0) : (nI a ≤ 0) = True := by subst h; exact eq_true (nI_le (a := 0) (b := 0) (by decide) (by decide))
theorem zs_nl0F {a : Nat} (h : 0 < a) (ha : a < 2 ^ 31) : (nI a ≤ 0) = False := eq_false (nI_nle h ha)
theorem zs_t4T {i : Nat} (h : i < 4) : (nI i < 4) = True := eq_true (nI_lt (b := 4) h (by decide))
theorem zs_t4F {i : Nat} (h : 4 ≤ i) (hi : i < 2 ^ 31) : (nI i < 4) = False := eq_false (nI_nlt (b := 4) h hi)
theorem zs_2n : ((2 : Int32) = 0) = False := by decide
theorem zs_nb {x : Nat} (h : x ≤ 1) : (narrow .boolean (.int (nI x)) = .int (nI x)) = True := by
  apply eq_true
  rcases Nat.eq_zero_or_pos x with z | z
  · subst z; rw [nI_0]; rfl
  · have e : x = 1 := by omega
    subst e; rfl
theorem zs_l1T {i : Nat} (h : 1 ≤ i) (hi : i < 2 ^ 31) : ((1 : Int32) ≤ nI i) = True := eq_true (nI_le (a := 1) h hi)
theorem zs_l1F {i : Nat} (h : i < 1) : ((1 : Int32) ≤ nI i) = False := eq_false (nI_ge (b := 1) h (by decide))
theorem zs_l2T {i : Nat} (h : 2 ≤ i) (hi : i < 2 ^ 31) : ((2 : Int32) ≤ nI i) = True := eq_true (nI_le (a := 2) h hi)
theorem zs_l2F {i : Nat} (h : i < 2) : ((2 : Int32) ≤ nI i) = False := eq_false (nI_ge (b := 2) h (by decide))
theorem zs_l4T {i : Nat} (h : 4 ≤ i) (hi : i < 2 ^ 31) : ((4 : Int32) ≤ nI i) = True := eq_true (nI_le (a := 4) h hi)
theorem zs_l4F {i : Nat} (h : i < 4) : ((4 : Int32) ≤ nI i) = False := eq_false (nI_ge (b := 4) h (by decide))
theorem zs_l8T {i : Nat} (h : 8 ≤ i) (hi : i < 2 ^ 31) : ((8 : Int32) ≤ nI i) = True := eq_true (nI_le (a := 8) h hi)
theorem zs_l8F {i : Nat} (h : i < 8) : ((8 : Int32) ≤ nI i) = False := eq_false (nI_ge (b := 8) h (by decide))
theorem zs_l16T {i : Nat} (h : 16 ≤ i) (hi : i < 2 ^ 31) : ((16 : Int32) ≤ nI i) = True := eq_true (nI_le (a := 16) h hi)
theorem zs_l16F {i : Nat} (h : i < 16) : ((16 : Int32) ≤ nI i) = False := eq_false (nI_ge (b := 16) h (by decide))
theorem zs_l32T {i : Nat} (h : 32 ≤ i) (hi : i < 2 ^ 31) : ((32 : Int32) ≤ nI i) = True := eq_true (nI_le (a := 32) h hi)
theorem zs_l32F {i : Nat} (h : i < 32) : ((32 : Int32) ≤ nI i) = False := eq_false (nI_ge (b := 32) h (by decide))
theorem zs_l64T {i : Nat} (h : 64 ≤ i) (hi : i < 2 ^ 31) : ((64 : Int32) ≤ nI i) = True := eq_true (nI_le (a := 64) h hi)
theorem zs_l64F {i : Nat} (h : i < 64) : ((64 : Int32) ≤ nI i) = False := eq_false (nI_ge (b := 64) h (by decide))
theorem zs_l320T {i : Nat} (h : 320 ≤ i) (hi : i < 2 ^ 31) : ((320 : Int32) ≤ nI i) = True := eq_true (nI_le (a := 320) h hi)
theorem zs_l320F {i : Nat} (h : i < 320) : ((320 : Int32) ≤ nI i) = False := eq_false (nI_ge (b := 320) h (by decide))
theorem zs_l513T {i : Nat} (h : 513 ≤ i) (hi : i < 2 ^ 31) : ((513 : Int32) ≤ nI i) = True := eq_true (nI_le (a := 513) h hi)
theorem zs_l513F {i : Nat} (h : i < 513) : ((513 : Int32) ≤ nI i) = False := eq_false (nI_ge (b := 513) h (by decide))
theorem zs_l2561T {i : Nat} (h : 2561 ≤ i) (hi : i < 2 ^ 31) : ((2561 : Int32) ≤ nI i) = True := eq_true (nI_le (a := 2561) h hi)
theorem zs_l2561F {i : Nat} (h : i < 2561) : ((2561 : Int32) ≤ nI i) = False := eq_false (nI_ge (b := 2561) h (by decide))
def zm_sm (f : Nat → Nat) : Nat → Nat
  | 0 => 0
  | n + 1 => zm_sm f n + f n
theorem zm_sm_le {f : Nat → Nat} {c : Nat} : ∀ {n : Nat}, (∀ j, j < n → f j ≤ c) → zm_sm f n ≤ n * c
  | 0, _ => by simp [zm_sm]
  | n + 1, h => by
    have a := zm_sm_le (n := n) (fun j hj => h j (by omega))
    have b := h n (by omega)
    rw [zm_sm, Nat.add_mul]; omega
theorem zm_sm_mono {f g : Nat → Nat} : ∀ {n : Nat}, (∀ j, j < n → f j ≤ g j) → zm_sm f n ≤ zm_sm g n
  | 0, _ => Nat.le_refl _
  | n + 1, h => by
    have a := zm_sm_mono (n := n) (fun j hj => h j (by omega))
    have b := h n (by omega)
    rw [zm_sm, zm_sm]; omega
theorem zm_sm_lt {f g : Nat → Nat} {i : Nat} (hl : f i < g i) : ∀ {n : Nat}, i < n → (∀ j, j < n → f j ≤ g j) → zm_sm f n < zm_sm g n
  | 0, hi, _ => by omega
  | n + 1, hi, h => by
    have b := h n (by omega)
    rw [zm_sm, zm_sm]
    rcases Nat.lt_or_ge i n with z | z
    · have a := zm_sm_lt hl (n := n) z (fun j hj => h j (by omega))
      omega
    · have e : i = n := by omega
      subst e
      have a := zm_sm_mono (n := i) (fun j hj => h j (by omega))
      omega
theorem zm_sm_eq {f g : Nat → Nat} {n : Nat} (h : ∀ j, j < n → f j = g j) : zm_sm f n = zm_sm g n :=
  Nat.le_antisymm (zm_sm_mono fun j hj => Nat.le_of_eq (h j hj)) (zm_sm_mono fun j hj => Nat.le_of_eq (h j hj).symm)
theorem zm_sm_a1 {f g : Nat → Nat} {c : Nat} (hc : g c = f c + 1) : ∀ {n : Nat}, (∀ j, j < n → j ≠ c → g j = f j) → c < n → zm_sm g n = zm_sm f n + 1
  | 0, _, h => by omega
  | n + 1, hn, h => by
    rw [zm_sm, zm_sm]
    rcases Nat.lt_or_ge c n with z | z
    · have a := zm_sm_a1 hc (n := n) (fun j hj => hn j (by omega)) z
      have b := hn n (by omega) (by omega)
      omega
    · have e : c = n := by omega
      subst e
      have a : zm_sm g c = zm_sm f c := zm_sm_eq fun j hj => hn j (by omega) (by omega)
      omega
/-- what both fixed points count: sum of the uppers and of the lowers' depths -/
def zm_mu (m wy : Nat) (f g : Nat → Nat) : Nat := zm_sm f m + zm_sm (fun j => wy - g j) m
theorem zm_mu_le {m wy : Nat} {f g : Nat → Nat} (h : ∀ j, j < m → f j ≤ wy) : zm_mu m wy f g ≤ m * wy + m * wy := by
  have a := zm_sm_le (n := m) (c := wy) h
  have b := zm_sm_le (n := m) (f := fun j => wy - g j) (c := wy) (fun j _ => Nat.sub_le _ _)
  unfold zm_mu; omega
theorem zm_mu_mono {m wy : Nat} {f g f' g' : Nat → Nat} (h : ∀ j, j < m → f j ≤ f' j) (h' : ∀ j, j < m → g' j ≤ g j) : zm_mu m wy f g ≤ zm_mu m wy f' g' := by
  have a := zm_sm_mono h
  have b := zm_sm_mono (n := m) (f := fun j => wy - g j) (g := fun j => wy - g' j) (fun j hj => by have := h' j hj; omega)
  unfold zm_mu; omega
theorem zm_mu_lt1 {m wy i : Nat} {f g f' g' : Nat → Nat} (h : ∀ j, j < m → f j ≤ f' j) (h' : ∀ j, j < m → g' j ≤ g j) (hi : i < m) (hl : f i < f' i) : zm_mu m wy f g < zm_mu m wy f' g' := by
  have a := zm_sm_lt hl hi h
  have b := zm_sm_mono (n := m) (f := fun j => wy - g j) (g := fun j => wy - g' j) (fun j hj => by have := h' j hj; omega)
  unfold zm_mu; omega
theorem zm_mu_lt2 {m wy i : Nat} {f g f' g' : Nat → Nat} (h : ∀ j, j < m → f j ≤ f' j) (h' : ∀ j, j < m → g' j ≤ g j) (hi : i < m) (hw : g i ≤ wy) (hl : g' i < g i) : zm_mu m wy f g < zm_mu m wy f' g' := by
  have a := zm_sm_mono h
  have b := zm_sm_lt (f := fun j => wy - g j) (g := fun j => wy - g' j) (i := i) (by omega) hi (fun j hj => by have := h' j hj; omega)
  unfold zm_mu; omega
theorem zs_lleT {a b : Nat} (h : a ≤ b) (hb : b < 2 ^ 31) : (lN a ≤ lN b) = True := eq_true ((lN_le (by omega) hb).mpr h)
theorem zs_lleF {a b : Nat} (h : b < a) (ha : a < 2 ^ 31) : (lN a ≤ lN b) = False := eq_false (fun z => by have := (lN_le ha (by omega)).mp z; omega)
theorem zs_le0T {a : Nat} (h : a = 0) : (lN a = 0) = True := by subst h; exact eq_true rfl
theorem zs_le0F {a : Nat} (h : a ≠ 0) (ha : a < 2 ^ 31) : (lN a = 0) = False := eq_false (fun z => h ((lN_eq (b := 0) ha (by decide)).mp z))
end
section
/-! the pure analysis: effects, states by position, what is reached, closed bounds, the least of them -/
def zp_eU (se c : Nat) (f : Nat → Nat) (b : Nat) : Nat :=
  if b = c then 0 else if b % se = c % se then (if f b < f c then f b + 1 else f b) else f b
def zp_eL (se wy c : Nat) (f : Nat → Nat) (b : Nat) : Nat :=
  if b = c then 0 else if b % se = c % se then (if f b ≤ f c ∧ f b < wy then f b + 1 else f b) else f b
def zp_sU (se : Nat) (rx : Nat → Nat) (n : Nat) (f : Nat → Nat) : Nat → Nat → Nat
  | 0 => f
  | p + 1 => zp_eU se (rx (n * 4 + p)) (zp_sU se rx n f p)
def zp_sL (se wy : Nat) (rx : Nat → Nat) (n : Nat) (f : Nat → Nat) : Nat → Nat → Nat
  | 0 => f
  | p + 1 => zp_eL se wy (rx (n * 4 + p)) (zp_sL se wy rx n f p)
def zp_sl (g : Nat → Nat) (n : Nat) : Nat → Nat := fun b => g (n * 8 + b)
theorem zp_eU_mono {se c bk : Nat} {f g : Nat → Nat} (hc : c < bk) (h : ∀ b, b < bk → f b ≤ g b) : ∀ b, b < bk → zp_eU se c f b ≤ zp_eU se c g b := by
  intro b hb
  have h1 := h b hb
  have h2 := h c hc
  unfold zp_eU
  by_cases e : b = c
  · rw [if_pos e, if_pos e]; exact Nat.le_refl _
  · rw [if_neg e, if_neg e]
    by_cases e2 : b % se = c % se
    · rw [if_pos e2, if_pos e2]
      split <;> split <;> omega
    · rw [if_neg e2, if_neg e2]; exact h1
theorem zp_eL_mono {se wy c bk : Nat} {f g : Nat → Nat} (hc : c < bk) (h : ∀ b, b < bk → f b ≤ g b) : ∀ b, b < bk → zp_eL se wy c f b ≤ zp_eL se wy c g b := by
  intro b hb
  have h1 := h b hb
  have h2 := h c hc
  unfold zp_eL
  by_cases e : b = c
  · rw [if_pos e, if_pos e]; exact Nat.le_refl _
  · rw [if_neg e, if_neg e]
    by_cases e2 : b % se = c % se
    · rw [if_pos e2, if_pos e2]
      split <;> split <;> omega
    · rw [if_neg e2, if_neg e2]; exact h1
theorem zp_eU_le {se wy c bk : Nat} {f : Nat → Nat} (hc : c < bk) (h : ∀ b, b < bk → f b ≤ wy) : ∀ b, b < bk → zp_eU se c f b ≤ wy := by
  intro b hb
  have h1 := h b hb
  have h2 := h c hc
  unfold zp_eU
  split
  · omega
  · split
    · split <;> omega
    · exact h1
theorem zp_eL_le {se wy c bk : Nat} {f : Nat → Nat} (h : ∀ b, b < bk → f b ≤ wy) : ∀ b, b < bk → zp_eL se wy c f b ≤ wy := by
  intro b hb
  have h1 := h b hb
  unfold zp_eL
  split
  · omega
  · split
    · split <;> omega
    · exact h1
theorem zp_sU_mono {se bk n : Nat} {rx f g : Nat → Nat} (h : ∀ b, b < bk → f b ≤ g b) : ∀ p, (∀ q, q < p → rx (n * 4 + q) < bk) → ∀ b, b < bk → zp_sU se rx n f p b ≤ zp_sU se rx n g p b
  | 0, _ => h
  | p + 1, hr => zp_eU_mono (hr p (by omega)) (zp_sU_mono h p (fun q hq => hr q (by omega)))
theorem zp_sL_mono {se wy bk n : Nat} {rx f g : Nat → Nat} (h : ∀ b, b < bk → f b ≤ g b) : ∀ p, (∀ q, q < p → rx (n * 4 + q) < bk) → ∀ b, b < bk → zp_sL se wy rx n f p b ≤ zp_sL se wy rx n g p b
  | 0, _ => h
  | p + 1, hr => zp_eL_mono (hr p (by omega)) (zp_sL_mono h p (fun q hq => hr q (by omega)))
theorem zp_sU_le {se wy bk n : Nat} {rx f : Nat → Nat} (h : ∀ b, b < bk → f b ≤ wy) : ∀ p, (∀ q, q < p → rx (n * 4 + q) < bk) → ∀ b, b < bk → zp_sU se rx n f p b ≤ wy
  | 0, _ => h
  | p + 1, hr => zp_eU_le (hr p (by omega)) (zp_sU_le h p (fun q hq => hr q (by omega)))
theorem zp_sL_le {se wy bk n : Nat} {rx f : Nat → Nat} (h : ∀ b, b < bk → f b ≤ wy) : ∀ p, ∀ b, b < bk → zp_sL se wy rx n f p b ≤ wy
  | 0 => h
  | p + 1 => zp_eL_le (zp_sL_le h p)
theorem zp_eU_cg {se c bk : Nat} {f g : Nat → Nat} (hc : c < bk) (h : ∀ b, b < bk → f b = g b) : ∀ b, b < bk → zp_eU se c f b = zp_eU se c g b := fun b hb =>
  Nat.le_antisymm (zp_eU_mono hc (fun b hb => Nat.le_of_eq (h b hb)) b hb) (zp_eU_mono hc (fun b hb => Nat.le_of_eq (h b hb).symm) b hb)
theorem zp_eL_cg {se wy c bk : Nat} {f g : Nat → Nat} (hc : c < bk) (h : ∀ b, b < bk → f b = g b) : ∀ b, b < bk → zp_eL se wy c f b = zp_eL se wy c g b := fun b hb =>
  Nat.le_antisymm (zp_eL_mono hc (fun b hb => Nat.le_of_eq (h b hb)) b hb) (zp_eL_mono hc (fun b hb => Nat.le_of_eq (h b hb).symm) b hb)
theorem zp_sU_cg {se bk n : Nat} {rx f g : Nat → Nat} (h : ∀ b, b < bk → f b = g b) (p : Nat) (hr : ∀ q, q < p → rx (n * 4 + q) < bk) (b : Nat) (hb : b < bk) : zp_sU se rx n f p b = zp_sU se rx n g p b :=
  Nat.le_antisymm (zp_sU_mono (fun b hb => Nat.le_of_eq (h b hb)) p hr b hb) (zp_sU_mono (fun b hb => Nat.le_of_eq (h b hb).symm) p hr b hb)
theorem zp_sL_cg {se wy bk n : Nat} {rx f g : Nat → Nat} (h : ∀ b, b < bk → f b = g b) (p : Nat) (hr : ∀ q, q < p → rx (n * 4 + q) < bk) (b : Nat) (hb : b < bk) : zp_sL se wy rx n f p b = zp_sL se wy rx n g p b :=
  Nat.le_antisymm (zp_sL_mono (fun b hb => Nat.le_of_eq (h b hb)) p hr b hb) (zp_sL_mono (fun b hb => Nat.le_of_eq (h b hb).symm) p hr b hb)
/-- the graph is well formed -/
def zp_G (nd bk : Nat) (ln rx : Nat → Nat) (eg : Nat → Option Nat) : Prop :=
  (∀ n, n < nd → ln n ≤ 4) ∧ (∀ n, n < nd → ∀ p, p < ln n → rx (n * 4 + p) < bk) ∧ (∀ n, n < nd → ∀ s, s < 2 → ∀ t, eg (n * 2 + s) = some t → t < nd)
/-- closed under the edges -/
def zp_C (nd : Nat) (eg : Nat → Option Nat) (P : Nat → Prop) : Prop := ∀ n, n < nd → P n → ∀ s, s < 2 → ∀ t, eg (n * 2 + s) = some t → P t
def zp_R (nd : Nat) (eg : Nat → Option Nat) (n : Nat) : Prop := ∀ P : Nat → Prop, P 0 → zp_C nd eg P → P n
theorem zp_R0 (nd : Nat) (eg : Nat → Option Nat) : zp_R nd eg 0 := fun _ h _ => h
theorem zp_Rs {nd : Nat} {eg : Nat → Option Nat} {n s t : Nat} (hn : n < nd) (h : zp_R nd eg n) (hs : s < 2) (e : eg (n * 2 + s) = some t) : zp_R nd eg t :=
  fun P h0 hC => hC n hn (h P h0 hC) s hs t e
def zp_PU (nd bk se wy : Nat) (ln rx : Nat → Nat) (eg : Nat → Option Nat) (Q : Nat → Nat) : Prop :=
  (∀ b, b < bk → wy ≤ Q b) ∧ ∀ n, n < nd → zp_R nd eg n → ∀ s, s < 2 → ∀ t, eg (n * 2 + s) = some t → ∀ b, b < bk → zp_sU se rx n (zp_sl Q n) (ln n) b ≤ Q (t * 8 + b)
def zp_PL (nd bk se wy : Nat) (ln rx : Nat → Nat) (eg : Nat → Option Nat) (Q : Nat → Nat) : Prop :=
  (∀ n, n < nd → ∀ b, b < bk → Q (n * 8 + b) ≤ wy) ∧ ∀ n, n < nd → zp_R nd eg n → ∀ s, s < 2 → ∀ t, eg (n * 2 + s) = some t → ∀ b, b < bk → Q (t * 8 + b) ≤ zp_sL se wy rx n (zp_sl Q n) (ln n) b
def zp_LU (nd bk se wy : Nat) (ln rx : Nat → Nat) (eg : Nat → Option Nat) (f : Nat → Nat) : Prop :=
  zp_PU nd bk se wy ln rx eg f ∧ ∀ Q, zp_PU nd bk se wy ln rx eg Q → ∀ n, n < nd → ∀ b, b < bk → f (n * 8 + b) ≤ Q (n * 8 + b)
def zp_LL (nd bk se wy : Nat) (ln rx : Nat → Nat) (eg : Nat → Option Nat) (f : Nat → Nat) : Prop :=
  zp_PL nd bk se wy ln rx eg f ∧ ∀ Q, zp_PL nd bk se wy ln rx eg Q → ∀ n, n < nd → ∀ b, b < bk → Q (n * 8 + b) ≤ f (n * 8 + b)
noncomputable def zp_cU (nd bk se wy : Nat) (ln rx : Nat → Nat) (eg : Nat → Option Nat) : Nat → Nat := Classical.epsilon (fun Q : Nat → Nat => zp_LU nd bk se wy ln rx eg Q)
noncomputable def zp_cL (nd bk se wy : Nat) (ln rx : Nat → Nat) (eg : Nat → Option Nat) : Nat → Nat := Classical.epsilon (fun Q : Nat → Nat => zp_LL nd bk se wy ln rx eg Q)
/-- the bounds that both sides answer -/
noncomputable def zp_vU (nd bk se wy : Nat) (ln rx : Nat → Nat) (eg : Nat → Option Nat) (n p b : Nat) : Nat := zp_sU se rx n (zp_sl (zp_cU nd bk se wy ln rx eg) n) p b
noncomputable def zp_vL (nd bk se wy : Nat) (ln rx : Nat → Nat) (eg : Nat → Option Nat) (n p b : Nat) : Nat := zp_sL se wy rx n (zp_sl (zp_cL nd bk se wy ln rx eg) n) p b
section
variable {nd bk se wy : Nat} {ln rx : Nat → Nat} {eg : Nat → Option Nat}
theorem zp_LU_u {f g : Nat → Nat} (hf : zp_LU nd bk se wy ln rx eg f) (hg : zp_LU nd bk se wy ln rx eg g) (n : Nat) (hn : n < nd) (b : Nat) (hb : b < bk) : f (n * 8 + b) = g (n * 8 + b) :=
  Nat.le_antisymm (hf.2 g hg.1 n hn b hb) (hg.2 f hf.1 n hn b hb)
theorem zp_LL_u {f g : Nat → Nat} (hf : zp_LL nd bk se wy ln rx eg f) (hg : zp_LL nd bk se wy ln rx eg g) (n : Nat) (hn : n < nd) (b : Nat) (hb : b < bk) : f (n * 8 + b) = g (n * 8 + b) :=
  Nat.le_antisymm (hg.2 f hf.1 n hn b hb) (hf.2 g hg.1 n hn b hb)
theorem zp_vU_of {f : Nat → Nat} (G : zp_G nd bk ln rx eg) (hf : zp_LU nd bk se wy ln rx eg f) {n p b : Nat} (hn : n < nd) (hp : p ≤ ln n) (hb : b < bk) : zp_sU se rx n (zp_sl f n) p b = zp_vU nd bk se wy ln rx eg n p b := by
  have hc : zp_LU nd bk se wy ln rx eg (zp_cU nd bk se wy ln rx eg) := Classical.epsilon_spec (p := fun Q : Nat → Nat => zp_LU nd bk se wy ln rx eg Q) ⟨f, hf⟩
  exact zp_sU_cg (bk := bk) (fun b hb => zp_LU_u hf hc n hn b hb) p (fun q hq => G.2.1 n hn q (by omega)) b hb
theorem zp_vL_of {f : Nat → Nat} (G : zp_G nd bk ln rx eg) (hf : zp_LL nd bk se wy ln rx eg f) {n p b : Nat} (hn : n < nd) (hp : p ≤ ln n) (hb : b < bk) : zp_sL se wy rx n (zp_sl f n) p b = zp_vL nd bk se wy ln rx eg n p b := by
  have hc : zp_LL nd bk se wy ln rx eg (zp_cL nd bk se wy ln rx eg) := Classical.epsilon_spec (p := fun Q : Nat → Nat => zp_LL nd bk se wy ln rx eg Q) ⟨f, hf⟩
  exact zp_sL_cg (bk := bk) (fun b hb => zp_LL_u hf hc n hn b hb) p (fun q hq => G.2.1 n hn q (by omega)) b hb
/-- what the component's sweep keeps -/
def zp_X (nd bk se wy : Nat) (ln rx : Nat → Nat) (eg : Nat → Option Nat) (iu il : Nat → Nat) : Prop :=
  (∀ j, j < 64 → iu j ≤ wy ∧ il j ≤ wy) ∧ (∀ b, b < bk → wy ≤ iu b) ∧
  (∀ Q, zp_PU nd bk se wy ln rx eg Q → ∀ n, n < nd → ∀ b, b < bk → iu (n * 8 + b) ≤ Q (n * 8 + b)) ∧
  (∀ Q, zp_PL nd bk se wy ln rx eg Q → ∀ n, n < nd → ∀ b, b < bk → Q (n * 8 + b) ≤ il (n * 8 + b))
/-- node n's out state is joined into its targets -/
def zp_N (bk se wy : Nat) (ln rx : Nat → Nat) (eg : Nat → Option Nat) (iu il : Nat → Nat) (n s : Nat) : Prop :=
  ∀ t, eg (n * 2 + s) = some t → ∀ b, b < bk → zp_sU se rx n (zp_sl iu n) (ln n) b ≤ iu (t * 8 + b) ∧ il (t * 8 + b) ≤ zp_sL se wy rx n (zp_sl il n) (ln n) b
theorem zp_X_fin {iu il : Nat → Nat} (h8 : nd ≤ 8 ∧ bk ≤ 8) (h : zp_X nd bk se wy ln rx eg iu il) (hN : ∀ n, n < nd → zp_R nd eg n → ∀ s, s < 2 → zp_N bk se wy ln rx eg iu il n s) : zp_LU nd bk se wy ln rx eg iu ∧ zp_LL nd bk se wy ln rx eg il :=
  ⟨⟨⟨h.2.1, fun n hn hr s hs t e b hb => (hN n hn hr s hs t e b hb).1⟩, h.2.2.1⟩,
   ⟨⟨fun n hn b hb => (h.1 (n * 8 + b) (by omega)).2, fun n hn hr s hs t e b hb => (hN n hn hr s hs t e b hb).2⟩, h.2.2.2⟩⟩
/-- what a joined state must obey -/
def zp_J (nd bk se wy : Nat) (ln rx : Nat → Nat) (eg : Nat → Option Nat) (cu cl : Nat → Nat) (t : Nat) : Prop :=
  (∀ b, b < bk → cu b ≤ wy ∧ cl b ≤ wy) ∧
  (∀ Q, zp_PU nd bk se wy ln rx eg Q → ∀ b, b < bk → cu b ≤ Q (t * 8 + b)) ∧
  (∀ Q, zp_PL nd bk se wy ln rx eg Q → ∀ b, b < bk → Q (t * 8 + b) ≤ cl b)
theorem zp_J_of {iu il cu cl : Nat → Nat} (G : zp_G nd bk ln rx eg) (h8 : nd ≤ 8 ∧ bk ≤ 8) (h : zp_X nd bk se wy ln rx eg iu il) {n s t : Nat} (hn : n < nd) (hr : zp_R nd eg n) (hs : s < 2) (e : eg (n * 2 + s) = some t)
    (hu : ∀ b, b < bk → cu b = zp_sU se rx n (zp_sl iu n) (ln n) b) (hl : ∀ b, b < bk → cl b = zp_sL se wy rx n (zp_sl il n) (ln n) b) : zp_J nd bk se wy ln rx eg cu cl t := by
  have hrx : ∀ q, q < ln n → rx (n * 4 + q) < bk := G.2.1 n hn
  refine ⟨fun b hb => ⟨?_, ?_⟩, fun Q hQ b hb => ?_, fun Q hQ b hb => ?_⟩
  · rw [hu b hb]
    exact zp_sU_le (bk := bk) (fun b hb => (h.1 (n * 8 + b) (by omega)).1) _ hrx b hb
  · rw [hl b hb]
    exact zp_sL_le (bk := bk) (fun b hb => (h.1 (n * 8 + b) (by omega)).2) _ b hb
  · rw [hu b hb]
    exact Nat.le_trans (zp_sU_mono (bk := bk) (fun b hb => h.2.2.1 Q hQ n hn b hb) _ hrx b hb) (hQ.2 n hn hr s hs t e b hb)
  · rw [hl b hb]
    exact Nat.le_trans (hQ.2 n hn hr s hs t e b hb) (zp_sL_mono (bk := bk) (fun b hb => h.2.2.2 Q hQ n hn b hb) _ hrx b hb)
theorem zp_X_u {iu il cu cl : Nat → Nat} {t b : Nat} (h8 : nd ≤ 8 ∧ bk ≤ 8) (ht : t < nd) (hb : b < bk) (J : zp_J nd bk se wy ln rx eg cu cl t) (h : zp_X nd bk se wy ln rx eg iu il) (hl : iu (t * 8 + b) < cu b) : zp_X nd bk se wy ln rx eg (zm_up iu (t * 8 + b) (cu b)) il := by
  refine ⟨fun j hj => ⟨?_, (h.1 j hj).2⟩, fun b' hb' => ?_, fun Q hQ n hn b' hb' => ?_, h.2.2.2⟩
  · rcases Nat.decEq j (t * 8 + b) with e | e
    · rw [zm_upn e]; exact (h.1 j hj).1
    · rw [e, zm_ups]; exact (J.1 b hb).1
  · have := h.2.1 b' hb'
    rcases Nat.decEq b' (t * 8 + b) with e | e
    · rw [zm_upn e]; exact this
    · rw [e] at this ⊢; rw [zm_ups]; omega
  · rcases Nat.decEq (n * 8 + b') (t * 8 + b) with e | e
    · rw [zm_upn e]; exact h.2.2.1 Q hQ n hn b' hb'
    · rw [e, zm_ups]; exact J.2.1 Q hQ b hb
theorem zp_X_l {iu il cu cl : Nat → Nat} {t b : Nat} (h8 : nd ≤ 8 ∧ bk ≤ 8) (ht : t < nd) (hb : b < bk) (J : zp_J nd bk se wy ln rx eg cu cl t) (h : zp_X nd bk se wy ln rx eg iu il) : zp_X nd bk se wy ln rx eg iu (zm_up il (t * 8 + b) (cl b)) := by
  refine ⟨fun j hj => ⟨(h.1 j hj).1, ?_⟩, h.2.1, h.2.2.1, fun Q hQ n hn b' hb' => ?_⟩
  · rcases Nat.decEq j (t * 8 + b) with e | e
    · rw [zm_upn e]; exact (h.1 j hj).2
    · rw [e, zm_ups]; exact (J.1 b hb).2
  · rcases Nat.decEq (n * 8 + b') (t * 8 + b) with e | e
    · rw [zm_upn e]; exact h.2.2.2 Q hQ n hn b' hb'
    · rw [e, zm_ups]; exact J.2.2 Q hQ b hb
theorem zm_mu_u {m wy i x : Nat} {f g : Nat → Nat} (hi : i < m) (hl : f i < x) : zm_mu m wy f g < zm_mu m wy (zm_up f i x) g := by
  refine zm_mu_lt1 (i := i) (fun j _ => ?_) (fun j _ => Nat.le_refl _) hi (by rw [zm_ups]; exact hl)
  rcases Nat.decEq j i with e | e
  · rw [zm_upn e]; exact Nat.le_refl _
  · rw [e, zm_ups]; omega
theorem zm_mu_l {m wy i x : Nat} {f g : Nat → Nat} (hi : i < m) (hw : g i ≤ wy) (hl : x < g i) : zm_mu m wy f g < zm_mu m wy f (zm_up g i x) := by
  refine zm_mu_lt2 (i := i) (fun j _ => Nat.le_refl _) (fun j _ => ?_) hi hw (by rw [zm_ups]; exact hl)
  rcases Nat.decEq j i with e | e
  · rw [zm_upn e]; exact Nat.le_refl _
  · rw [e, zm_ups]; omega
end
end
section
/-! what is reached: the marking passes -/
def zr_ct (nd : Nat) (r : Nat → Nat) : Nat := zm_sm (fun j => if r j = 0 then 0 else 1) nd
theorem zr_ct_le (nd : Nat) (r : Nat → Nat) : zr_ct nd r ≤ nd := by
  have := zm_sm_le (n := nd) (f := fun j => if r j = 0 then 0 else 1) (c := 1) (fun j _ => by (try dsimp only); split <;> omega)
  unfold zr_ct; omega
def zr_B (nd : Nat) (eg : Nat → Option Nat) (r : Nat → Nat) : Prop := (∀ j, j < nd → r j ≤ 1) ∧ r 0 ≠ 0 ∧ ∀ n, n < nd → r n ≠ 0 → zp_R nd eg n
def zr_cl (nd : Nat) (eg : Nat → Option Nat) (r : Nat → Nat) : Prop := zp_C nd eg (fun n => r n ≠ 0)
def zr_J (nd : Nat) (eg : Nat → Option Nat) (k i : Nat) (r : Nat → Nat) : Prop :=
  zr_cl nd eg r ∨ k + 2 ≤ zr_ct nd r ∨ (k + 1 ≤ zr_ct nd r ∧ ∀ n, n < nd → ∀ s, s < 2 → n * 2 + s < i → r n ≠ 0 → ∀ t, eg (n * 2 + s) = some t → r t ≠ 0)
def zr_O (nd : Nat) (eg : Nat → Option Nat) (k : Nat) (r : Nat → Nat) : Prop := zr_cl nd eg r ∨ k + 1 ≤ zr_ct nd r
theorem zr_J0 {nd : Nat} {eg : Nat → Option Nat} {k : Nat} {r : Nat → Nat} (h : zr_O nd eg k r) : zr_J nd eg k 0 r := by
  rcases h with h | h
  · exact Or.inl h
  · exact Or.inr (Or.inr ⟨h, fun n _ s _ hi => absurd hi (by omega)⟩)
theorem zr_JE {nd : Nat} {eg : Nat → Option Nat} {k : Nat} {r : Nat → Nat} (h : zr_J nd eg k (nd * 2) r) : zr_O nd eg (k + 1) r := by
  rcases h with h | h | h
  · exact Or.inl h
  · exact Or.inr h
  · exact Or.inl (fun n hn hr s hs t e => h.2 n hn s hs (by omega) hr t e)
theorem zr_skip {nd : Nat} {eg : Nat → Option Nat} {k n s : Nat} {r : Nat → Nat} (hs : s < 2) (h : zr_J nd eg k (n * 2 + s) r) (hz : r n = 0 ∨ eg (n * 2 + s) = none) : zr_J nd eg k (n * 2 + s + 1) r := by
  rcases h with h | h | h
  · exact Or.inl h
  · exact Or.inr (Or.inl h)
  · refine Or.inr (Or.inr ⟨h.1, fun m hm u hu hi hr t e => ?_⟩)
    rcases Nat.lt_or_ge (m * 2 + u) (n * 2 + s) with z | z
    · exact h.2 m hm u hu z hr t e
    · have e1 : m = n := by omega
      have e2 : u = s := by omega
      subst e1 e2
      rcases hz with hz | hz
      · exact absurd hz hr
      · rw [hz] at e; cases e
theorem zr_nz {r : Nat → Nat} {t j : Nat} (h : r j ≠ 0) : zm_up r t 1 j ≠ 0 := by
  rcases Nat.decEq j t with e | e
  · rw [zm_upn e]; exact h
  · rw [e, zm_ups]; decide
theorem zr_B_m {nd : Nat} {eg : Nat → Option Nat} {n s t : Nat} {r : Nat → Nat} (hn : n < nd) (hs : s < 2) (hr : r n ≠ 0) (e : eg (n * 2 + s) = some t) (B : zr_B nd eg r) : zr_B nd eg (zm_up r t 1) := by
  refine ⟨fun j hj => ?_, zr_nz B.2.1, fun m hm hz => ?_⟩
  · rcases Nat.decEq j t with z | z
    · rw [zm_upn z]; exact B.1 j hj
    · rw [z, zm_ups]; exact Nat.le_refl _
  · rcases Nat.decEq m t with z | z
    · rw [zm_upn z] at hz; exact B.2.2 m hm hz
    · rw [z]; exact zp_Rs hn (B.2.2 n hn hr) hs e
theorem zr_mark {nd : Nat} {eg : Nat → Option Nat} {k n s t : Nat} {r : Nat → Nat} (hn : n < nd) (hs : s < 2) (ht : t < nd) (hr : r n ≠ 0) (e : eg (n * 2 + s) = some t) (h : zr_J nd eg k (n * 2 + s) r) : zr_J nd eg k (n * 2 + s + 1) (zm_up r t 1) := by
  by_cases hz : r t = 0
  · have hc : zr_ct nd r < zr_ct nd (zm_up r t 1) := by
      refine zm_sm_lt (i := t) ?_ ht (fun j _ => ?_)
      · try dsimp only
        rw [zm_ups, if_pos hz]; decide
      · try dsimp only
        rcases Nat.decEq j t with z | z
        · rw [zm_upn z]; exact Nat.le_refl _
        · rw [z, if_pos hz]; exact Nat.zero_le _
    rcases h with h | h | h
    · exact absurd hz (h n hn hr s hs t e)
    · exact Or.inr (Or.inl (by omega))
    · exact Or.inr (Or.inl (by omega))
  · have hb : ∀ j, zm_up r t 1 j ≠ 0 → r j ≠ 0 := by
      intro j hj
      rcases Nat.decEq j t with z | z
      · rw [zm_upn z] at hj; exact hj
      · rw [z]; exact hz
    have hc : zr_ct nd (zm_up r t 1) = zr_ct nd r := by
      refine zm_sm_eq (fun j _ => ?_)
      try dsimp only
      by_cases q : r j = 0
      · rw [if_pos q, if_pos (Decidable.byContradiction fun w => hb j w q)]
      · rw [if_neg q, if_neg (zr_nz q)]
    rcases h with h | h | h
    · exact Or.inl (fun m hm hr s hs t' e' => zr_nz (h m hm (hb m hr) s hs t' e'))
    · exact Or.inr (Or.inl (by omega))
    · refine Or.inr (Or.inr ⟨by omega, fun m hm u hu hi hr' t' e' => ?_⟩)
      rcases Nat.lt_or_ge (m * 2 + u) (n * 2 + s) with z | z
      · exact zr_nz (h.2 m hm u hu z (hb m hr') t' e')
      · have e1 : m = n := by omega
        have e2 : u = s := by omega
        subst e1 e2
        rw [e] at e'
        cases e'
        rw [zm_ups]; decide
/-- after as many passes as there are nodes -/
theorem zr_fin {nd : Nat} {eg : Nat → Option Nat} {k : Nat} {r : Nat → Nat} (B : zr_B nd eg r) (h : zr_O nd eg k r) (hk : nd ≤ k) : ∀ n, n < nd → (r n ≠ 0 ↔ zp_R nd eg n) := by
  have hc : zr_cl nd eg r := by
    rcases h with h | h
    · exact h
    · have := zr_ct_le nd r
      omega
  intro n hn
  exact ⟨B.2.2 n hn, fun hR => hR (fun m => r m ≠ 0) B.2.1 hc⟩
theorem zr_O0 {nd : Nat} {eg : Nat → Option Nat} {r : Nat → Nat} (h : 1 ≤ nd) (B : zr_B nd eg r) : zr_O nd eg 0 r := by
  refine Or.inr ?_
  have : zm_sm (fun _ => 0) nd < zr_ct nd r := zm_sm_lt (i := 0) (by (try dsimp only); rw [if_neg B.2.1]; decide) h (fun j _ => Nat.zero_le _)
  omega
end
section
/-! the reference's equations and their repair -/
def zy_jU (rr : Nat → Nat) (eg : Nat → Option Nat) (n : Nat) (v : Nat → Nat) (z : Nat) : Nat → Nat
  | 0 => z
  | i + 1 => if rr (i / 2) ≠ 0 ∧ eg i = some n then (if v i ≤ zy_jU rr eg n v z i then zy_jU rr eg n v z i else v i) else zy_jU rr eg n v z i
def zy_jL (rr : Nat → Nat) (eg : Nat → Option Nat) (n : Nat) (v : Nat → Nat) (z : Nat) : Nat → Nat
  | 0 => z
  | i + 1 => if rr (i / 2) ≠ 0 ∧ eg i = some n then (if zy_jL rr eg n v z i ≤ v i then zy_jL rr eg n v z i else v i) else zy_jL rr eg n v z i
section
variable {rr : Nat → Nat} {eg : Nat → Option Nat} {n z : Nat} {v v' : Nat → Nat}
theorem zy_jU_z : ∀ m, z ≤ zy_jU rr eg n v z m
  | 0 => Nat.le_refl _
  | m + 1 => by
    have := zy_jU_z m
    rw [zy_jU]
    split
    · split <;> omega
    · exact this
theorem zy_jU_v {i : Nat} (hr : rr (i / 2) ≠ 0) (he : eg i = some n) : ∀ m, i < m → v i ≤ zy_jU rr eg n v z m
  | 0, h => by omega
  | m + 1, h => by
    rw [zy_jU]
    rcases Nat.lt_or_ge i m with q | q
    · have := zy_jU_v hr he m q
      split
      · split <;> omega
      · exact this
    · have e : i = m := by omega
      subst e
      rw [if_pos ⟨hr, he⟩]
      split <;> omega
theorem zy_jU_le {q : Nat} (hz : z ≤ q) : ∀ m, (∀ i, i < m → rr (i / 2) ≠ 0 → eg i = some n → v i ≤ q) → zy_jU rr eg n v z m ≤ q
  | 0, _ => hz
  | m + 1, h => by
    have := zy_jU_le hz m (fun i hi => h i (by omega))
    rw [zy_jU]
    split
    · rename_i c
      have := h m (by omega) c.1 c.2
      split <;> omega
    · exact this
theorem zy_jU_mono (h : ∀ j, v j ≤ v' j) (m : Nat) : zy_jU rr eg n v z m ≤ zy_jU rr eg n v' z m :=
  zy_jU_le (zy_jU_z m) m (fun i hi hr he => Nat.le_trans (h i) (zy_jU_v hr he m hi))
theorem zy_jL_z : ∀ m, zy_jL rr eg n v z m ≤ z
  | 0 => Nat.le_refl _
  | m + 1 => by
    have := zy_jL_z m
    rw [zy_jL]
    split
    · split <;> omega
    · exact this
theorem zy_jL_v {i : Nat} (hr : rr (i / 2) ≠ 0) (he : eg i = some n) : ∀ m, i < m → zy_jL rr eg n v z m ≤ v i
  | 0, h => by omega
  | m + 1, h => by
    rw [zy_jL]
    rcases Nat.lt_or_ge i m with q | q
    · have := zy_jL_v hr he m q
      split
      · split <;> omega
      · exact this
    · have e : i = m := by omega
      subst e
      rw [if_pos ⟨hr, he⟩]
      split <;> omega
theorem zy_jL_le {q : Nat} (hz : q ≤ z) : ∀ m, (∀ i, i < m → rr (i / 2) ≠ 0 → eg i = some n → q ≤ v i) → q ≤ zy_jL rr eg n v z m
  | 0, _ => hz
  | m + 1, h => by
    have := zy_jL_le hz m (fun i hi => h i (by omega))
    rw [zy_jL]
    split
    · rename_i c
      have := h m (by omega) c.1 c.2
      split <;> omega
    · exact this
theorem zy_jL_mono (h : ∀ j, v j ≤ v' j) (m : Nat) : zy_jL rr eg n v z m ≤ zy_jL rr eg n v' z m :=
  zy_jL_le (zy_jL_z m) m (fun i hi hr he => Nat.le_trans (zy_jL_v hr he m hi) (h i))
end
def zy_z (wy n : Nat) : Nat := if n = 0 then wy else 0
def zy_FU (nd se wy : Nat) (ln rx : Nat → Nat) (eg : Nat → Option Nat) (rr : Nat → Nat) (up : Nat → Nat) (n p b : Nat) : Nat :=
  if p = 0 then zy_jU rr eg n (fun i => up ((i / 2 * 5 + ln (i / 2)) * 8 + b)) (zy_z wy n) (nd * 2)
  else zp_eU se (rx (n * 4 + p - 1)) (fun b => up ((n * 5 + p - 1) * 8 + b)) b
def zy_FL (nd se wy : Nat) (ln rx : Nat → Nat) (eg : Nat → Option Nat) (rr : Nat → Nat) (lw : Nat → Nat) (n p b : Nat) : Nat :=
  if p = 0 then zy_jL rr eg n (fun i => lw ((i / 2 * 5 + ln (i / 2)) * 8 + b)) wy (nd * 2)
  else zp_eL se wy (rx (n * 4 + p - 1)) (fun b => lw ((n * 5 + p - 1) * 8 + b)) b
section
variable {nd bk se wy : Nat} {ln rx : Nat → Nat} {eg : Nat → Option Nat} {rr : Nat → Nat} {up lw up' lw' : Nat → Nat}
/-- an equation holds -/
def zy_E (nd se wy : Nat) (ln rx : Nat → Nat) (eg : Nat → Option Nat) (rr : Nat → Nat) (up lw : Nat → Nat) (n p b : Nat) : Prop :=
  up ((n * 5 + p) * 8 + b) = zy_FU nd se wy ln rx eg rr up n p b ∧ lw ((n * 5 + p) * 8 + b) = zy_FL nd se wy ln rx eg rr lw n p b
/-- what the reference's repairs keep -/
def zy_Y (nd bk se wy : Nat) (ln rx : Nat → Nat) (eg : Nat → Option Nat) (rr : Nat → Nat) (up lw : Nat → Nat) : Prop :=
  (∀ j, j < 320 → up j ≤ wy ∧ lw j ≤ wy) ∧
  (∀ n, n < nd → rr n ≠ 0 → ∀ p, p ≤ ln n → ∀ b, b < bk → up ((n * 5 + p) * 8 + b) ≤ zy_FU nd se wy ln rx eg rr up n p b ∧ zy_FL nd se wy ln rx eg rr lw n p b ≤ lw ((n * 5 + p) * 8 + b)) ∧
  (∀ Q, zp_PU nd bk se wy ln rx eg Q → ∀ n, n < nd → rr n ≠ 0 → ∀ p, p ≤ ln n → ∀ b, b < bk → up ((n * 5 + p) * 8 + b) ≤ zp_sU se rx n (zp_sl Q n) p b) ∧
  (∀ Q, zp_PL nd bk se wy ln rx eg Q → ∀ n, n < nd → rr n ≠ 0 → ∀ p, p ≤ ln n → ∀ b, b < bk → zp_sL se wy rx n (zp_sl Q n) p b ≤ lw ((n * 5 + p) * 8 + b))
theorem zy_FU_mono (h : ∀ j, up j ≤ up' j) (G : zp_G nd bk ln rx eg) {n p b : Nat} (hn : n < nd) (hp : p ≤ ln n) (hb : b < bk) : zy_FU nd se wy ln rx eg rr up n p b ≤ zy_FU nd se wy ln rx eg rr up' n p b := by
  unfold zy_FU
  by_cases e : p = 0
  · rw [if_pos e, if_pos e]
    exact zy_jU_mono (fun j => h _) _
  · rw [if_neg e, if_neg e]
    have hc : rx (n * 4 + p - 1) < bk := by
      rw [Nat.add_sub_assoc (by omega)]; exact G.2.1 n hn (p - 1) (by omega)
    exact zp_eU_mono hc (fun b _ => h _) b hb
theorem zy_FL_mono (h : ∀ j, lw j ≤ lw' j) (G : zp_G nd bk ln rx eg) {n p b : Nat} (hn : n < nd) (hp : p ≤ ln n) (hb : b < bk) : zy_FL nd se wy ln rx eg rr lw n p b ≤ zy_FL nd se wy ln rx eg rr lw' n p b := by
  unfold zy_FL
  by_cases e : p = 0
  · rw [if_pos e, if_pos e]
    exact zy_jL_mono (fun j => h _) _
  · rw [if_neg e, if_neg e]
    have hc : rx (n * 4 + p - 1) < bk := by
      rw [Nat.add_sub_assoc (by omega)]; exact G.2.1 n hn (p - 1) (by omega)
    exact zp_eL_mono hc (fun b _ => h _) b hb
theorem zy_ln {n : Nat} (G : zp_G nd bk ln rx eg) (h : n < nd) : ln n ≤ 4 := G.1 n h
theorem zy_FU_le (G : zp_G nd bk ln rx eg) (h8 : nd ≤ 8 ∧ bk ≤ 8) (h : ∀ j, j < 320 → up j ≤ wy) {n p b : Nat} (hn : n < nd) (hp : p ≤ ln n) (hb : b < bk) : zy_FU nd se wy ln rx eg rr up n p b ≤ wy := by
  unfold zy_FU
  by_cases e : p = 0
  · rw [if_pos e]
    refine zy_jU_le (by unfold zy_z; split <;> omega) _ (fun i hi _ _ => h _ ?_)
    have := zy_ln G (n := i / 2) (by omega)
    omega
  · rw [if_neg e]
    have hc : rx (n * 4 + p - 1) < bk := by
      rw [Nat.add_sub_assoc (by omega)]; exact G.2.1 n hn (p - 1) (by omega)
    have := zy_ln G hn
    exact zp_eU_le hc (fun b _ => h _ (by omega)) b hb
theorem zy_FL_le (G : zp_G nd bk ln rx eg) (h8 : nd ≤ 8 ∧ bk ≤ 8) (h : ∀ j, j < 320 → lw j ≤ wy) {n p b : Nat} (hn : n < nd) (hp : p ≤ ln n) (hb : b < bk) : zy_FL nd se wy ln rx eg rr lw n p b ≤ wy := by
  unfold zy_FL
  by_cases e : p = 0
  · rw [if_pos e]
    exact zy_jL_z _
  · rw [if_neg e]
    have := zy_ln G hn
    exact zp_eL_le (fun b _ => h _ (by omega)) b hb
theorem zy_FU_Q (G : zp_G nd bk ln rx eg) (hR : ∀ n, n < nd → rr n ≠ 0 → zp_R nd eg n) (h : zy_Y nd bk se wy ln rx eg rr up lw) {Q : Nat → Nat} (hQ : zp_PU nd bk se wy ln rx eg Q) {n p b : Nat} (hn : n < nd) (hr : rr n ≠ 0) (hp : p ≤ ln n) (hb : b < bk) : zy_FU nd se wy ln rx eg rr up n p b ≤ zp_sU se rx n (zp_sl Q n) p b := by
  unfold zy_FU
  by_cases e : p = 0
  · rw [if_pos e, e]
    refine zy_jU_le ?_ _ (fun i hi hri he => ?_)
    · show zy_z wy n ≤ Q (n * 8 + b)
      unfold zy_z
      by_cases z : n = 0
      · rw [if_pos z, z]
        have := hQ.1 b hb
        rw [show 0 * 8 + b = b from by omega]; exact this
      · rw [if_neg z]; exact Nat.zero_le _
    · have h1 := h.2.2.1 Q hQ (i / 2) (by omega) hri (ln (i / 2)) (Nat.le_refl _) b hb
      have h2 := hQ.2 (i / 2) (by omega) (hR _ (by omega) hri) (i % 2) (by omega) n (by rw [show i / 2 * 2 + i % 2 = i from by omega]; exact he) b hb
      exact Nat.le_trans h1 h2
  · rw [if_neg e]
    obtain ⟨q, rfl⟩ : ∃ q, p = q + 1 := ⟨p - 1, by omega⟩
    have hc : rx (n * 4 + q) < bk := G.2.1 n hn q (by omega)
    exact zp_eU_mono (se := se) hc (fun b hb => h.2.2.1 Q hQ n hn hr q (by omega) b hb) b hb
theorem zy_FL_Q (G : zp_G nd bk ln rx eg) (hR : ∀ n, n < nd → rr n ≠ 0 → zp_R nd eg n) (h : zy_Y nd bk se wy ln rx eg rr up lw) {Q : Nat → Nat} (hQ : zp_PL nd bk se wy ln rx eg Q) {n p b : Nat} (hn : n < nd) (hr : rr n ≠ 0) (hp : p ≤ ln n) (hb : b < bk) : zp_sL se wy rx n (zp_sl Q n) p b ≤ zy_FL nd se wy ln rx eg rr lw n p b := by
  unfold zy_FL
  by_cases e : p = 0
  · rw [if_pos e, e]
    refine zy_jL_le (hQ.1 n hn b hb) _ (fun i hi hri he => ?_)
    have h1 := h.2.2.2 Q hQ (i / 2) (by omega) hri (ln (i / 2)) (Nat.le_refl _) b hb
    have h2 := hQ.2 (i / 2) (by omega) (hR _ (by omega) hri) (i % 2) (by omega) n (by rw [show i / 2 * 2 + i % 2 = i from by omega]; exact he) b hb
    exact Nat.le_trans h2 h1
  · rw [if_neg e]
    obtain ⟨q, rfl⟩ : ∃ q, p = q + 1 := ⟨p - 1, by omega⟩
    have hc : rx (n * 4 + q) < bk := G.2.1 n hn q (by omega)
    exact zp_eL_mono (se := se) hc (fun b hb => h.2.2.2 Q hQ n hn hr q (by omega) b hb) b hb
theorem zy_step (G : zp_G nd bk ln rx eg) (h8 : nd ≤ 8 ∧ bk ≤ 8) (hR : ∀ n, n < nd → rr n ≠ 0 → zp_R nd eg n) (h : zy_Y nd bk se wy ln rx eg rr up lw) {n p b : Nat} (hn : n < nd) (hr : rr n ≠ 0) (hp : p ≤ ln n) (hb : b < bk) :
    zy_Y nd bk se wy ln rx eg rr (zm_up up ((n * 5 + p) * 8 + b) (zy_FU nd se wy ln rx eg rr up n p b)) (zm_up lw ((n * 5 + p) * 8 + b) (zy_FL nd se wy ln rx eg rr lw n p b)) := by
  have hg := h.2.1 n hn hr p hp b hb
  have mU : ∀ j, up j ≤ zm_up up ((n * 5 + p) * 8 + b) (zy_FU nd se wy ln rx eg rr up n p b) j := by
    intro j
    rcases Nat.decEq j ((n * 5 + p) * 8 + b) with e | e
    · rw [zm_upn e]; exact Nat.le_refl _
    · rw [e, zm_ups]; exact hg.1
  have mL : ∀ j, zm_up lw ((n * 5 + p) * 8 + b) (zy_FL nd se wy ln rx eg rr lw n p b) j ≤ lw j := by
    intro j
    rcases Nat.decEq j ((n * 5 + p) * 8 + b) with e | e
    · rw [zm_upn e]; exact Nat.le_refl _
    · rw [e, zm_ups]; exact hg.2
  have inj : ∀ m q c, m < nd → q ≤ ln m → c < bk → (m * 5 + q) * 8 + c = (n * 5 + p) * 8 + b → m = n ∧ q = p ∧ c = b := by
    intro m q c hm hq hc e
    have h1 := zy_ln G hm
    have h2 := zy_ln G hn
    have e1 : c = b := by omega
    have e2 : m * 5 + q = n * 5 + p := by omega
    exact ⟨by omega, by omega, e1⟩
  refine ⟨fun j hj => ⟨?_, Nat.le_trans (mL j) (h.1 j hj).2⟩, fun m hm hrm q hq c hc => ⟨?_, ?_⟩, fun Q hQ m hm hrm q hq c hc => ?_, fun Q hQ m hm hrm q hq c hc => ?_⟩
  · rcases Nat.decEq j ((n * 5 + p) * 8 + b) with e | e
    · rw [zm_upn e]; exact (h.1 j hj).1
    · rw [e, zm_ups]; exact zy_FU_le G h8 (fun j hj => (h.1 j hj).1) hn hp hb
  · have hm2 := zy_FU_mono (se := se) (wy := wy) (rr := rr) mU G hm hq hc
    rcases Nat.decEq ((m * 5 + q) * 8 + c) ((n * 5 + p) * 8 + b) with e | e
    · rw [zm_upn e]; exact Nat.le_trans (h.2.1 m hm hrm q hq c hc).1 hm2
    · obtain ⟨e1, e2, e3⟩ := inj m q c hm hq hc e
      subst e1 e2 e3
      rw [zm_ups]; exact hm2
  · have hm2 := zy_FL_mono (se := se) (wy := wy) (rr := rr) mL G hm hq hc
    rcases Nat.decEq ((m * 5 + q) * 8 + c) ((n * 5 + p) * 8 + b) with e | e
    · rw [zm_upn e]; exact Nat.le_trans hm2 (h.2.1 m hm hrm q hq c hc).2
    · obtain ⟨e1, e2, e3⟩ := inj m q c hm hq hc e
      subst e1 e2 e3
      rw [zm_ups]; exact hm2
  · rcases Nat.decEq ((m * 5 + q) * 8 + c) ((n * 5 + p) * 8 + b) with e | e
    · rw [zm_upn e]; exact h.2.2.1 Q hQ m hm hrm q hq c hc
    · obtain ⟨e1, e2, e3⟩ := inj m q c hm hq hc e
      subst e1 e2 e3
      rw [zm_ups]; exact zy_FU_Q G hR h hQ hn hr hp hb
  · rcases Nat.decEq ((m * 5 + q) * 8 + c) ((n * 5 + p) * 8 + b) with e | e
    · rw [zm_upn e]; exact h.2.2.2 Q hQ m hm hrm q hq c hc
    · obtain ⟨e1, e2, e3⟩ := inj m q c hm hq hc e
      subst e1 e2 e3
      rw [zm_ups]; exact zy_FL_Q G hR h hQ hn hr hp hb
theorem zy_step_mu (G : zp_G nd bk ln rx eg) (h8 : nd ≤ 8 ∧ bk ≤ 8) (h : zy_Y nd bk se wy ln rx eg rr up lw) {n p b : Nat} (hn : n < nd) (hr : rr n ≠ 0) (hp : p ≤ ln n) (hb : b < bk) (hne : ¬ zy_E nd se wy ln rx eg rr up lw n p b) :
    zm_mu 320 wy up lw < zm_mu 320 wy (zm_up up ((n * 5 + p) * 8 + b) (zy_FU nd se wy ln rx eg rr up n p b)) (zm_up lw ((n * 5 + p) * 8 + b) (zy_FL nd se wy ln rx eg rr lw n p b)) := by
  have hg := h.2.1 n hn hr p hp b hb
  have hl4 := zy_ln G hn
  have hi : (n * 5 + p) * 8 + b < 320 := by omega
  have mU : ∀ j, j < 320 → up j ≤ zm_up up ((n * 5 + p) * 8 + b) (zy_FU nd se wy ln rx eg rr up n p b) j := by
    intro j _
    rcases Nat.decEq j ((n * 5 + p) * 8 + b) with e | e
    · rw [zm_upn e]; exact Nat.le_refl _
    · rw [e, zm_ups]; exact hg.1
  have mL : ∀ j, j < 320 → zm_up lw ((n * 5 + p) * 8 + b) (zy_FL nd se wy ln rx eg rr lw n p b) j ≤ lw j := by
    intro j _
    rcases Nat.decEq j ((n * 5 + p) * 8 + b) with e | e
    · rw [zm_upn e]; exact Nat.le_refl _
    · rw [e, zm_ups]; exact hg.2
  by_cases e : up ((n * 5 + p) * 8 + b) = zy_FU nd se wy ln rx eg rr up n p b
  · have e2 : ¬ lw ((n * 5 + p) * 8 + b) = zy_FL nd se wy ln rx eg rr lw n p b := fun z => hne ⟨e, z⟩
    exact zm_mu_lt2 mU mL hi (h.1 _ hi).2 (by rw [zm_ups]; omega)
  · exact zm_mu_lt1 mU mL hi (by rw [zm_ups]; omega)
/-- all equations hold: the bounds are the least -/
theorem zy_fin (G : zp_G nd bk ln rx eg) (h8 : nd ≤ 8 ∧ bk ≤ 8) (h1 : 1 ≤ nd) (hR : ∀ n, n < nd → (rr n ≠ 0 ↔ zp_R nd eg n)) (h : zy_Y nd bk se wy ln rx eg rr up lw)
    (hE : ∀ n, n < nd → rr n ≠ 0 → ∀ p, p ≤ ln n → ∀ b, b < bk → zy_E nd se wy ln rx eg rr up lw n p b) :
    ∀ n, n < nd → rr n ≠ 0 → ∀ p, p ≤ ln n → ∀ b, b < bk → up ((n * 5 + p) * 8 + b) = zp_vU nd bk se wy ln rx eg n p b ∧ lw ((n * 5 + p) * 8 + b) = zp_vL nd bk se wy ln rx eg n p b := by
  have sU : ∀ n, n < nd → rr n ≠ 0 → ∀ p, p ≤ ln n → ∀ b, b < bk → up ((n * 5 + p) * 8 + b) = zp_sU se rx n (fun b => up ((n * 5 + 0) * 8 + b)) p b := by
    intro n hn hr p
    induction p with
    | zero => intro _ b _; rfl
    | succ p ih =>
      intro hp b hb
      have hc : rx (n * 4 + p) < bk := G.2.1 n hn p (by omega)
      have e := (hE n hn hr (p + 1) hp b hb).1
      unfold zy_FU at e
      rw [if_neg (by omega)] at e
      exact e.trans (zp_eU_cg (se := se) hc (fun b hb => ih (by omega) b hb) b hb)
  have sL : ∀ n, n < nd → rr n ≠ 0 → ∀ p, p ≤ ln n → ∀ b, b < bk → lw ((n * 5 + p) * 8 + b) = zp_sL se wy rx n (fun b => lw ((n * 5 + 0) * 8 + b)) p b := by
    intro n hn hr p
    induction p with
    | zero => intro _ b _; rfl
    | succ p ih =>
      intro hp b hb
      have hc : rx (n * 4 + p) < bk := G.2.1 n hn p (by omega)
      have e := (hE n hn hr (p + 1) hp b hb).2
      unfold zy_FL at e
      rw [if_neg (by omega)] at e
      exact e.trans (zp_eL_cg (se := se) hc (fun b hb => ih (by omega) b hb) b hb)
  obtain ⟨QU, dU⟩ : ∃ Q : Nat → Nat, ∀ n, n < nd → ∀ b, b < bk → Q (n * 8 + b) = if rr n = 0 then 0 else up ((n * 5 + 0) * 8 + b) :=
    ⟨fun j => if rr (j / 8) = 0 then 0 else up ((j / 8 * 5 + 0) * 8 + j % 8), fun n _ b hb => by
      try dsimp only
      rw [show (n * 8 + b) / 8 = n from by omega, show (n * 8 + b) % 8 = b from by omega]⟩
  obtain ⟨QL, dL⟩ : ∃ Q : Nat → Nat, ∀ n, n < nd → ∀ b, b < bk → Q (n * 8 + b) = if rr n = 0 then wy else lw ((n * 5 + 0) * 8 + b) :=
    ⟨fun j => if rr (j / 8) = 0 then wy else lw ((j / 8 * 5 + 0) * 8 + j % 8), fun n _ b hb => by
      try dsimp only
      rw [show (n * 8 + b) / 8 = n from by omega, show (n * 8 + b) % 8 = b from by omega]⟩
  have r0 : rr 0 ≠ 0 := (hR 0 h1).mpr (zp_R0 nd eg)
  have eU : ∀ n, n < nd → rr n ≠ 0 → ∀ p, p ≤ ln n → ∀ b, b < bk → zp_sU se rx n (zp_sl QU n) p b = up ((n * 5 + p) * 8 + b) := by
    intro n hn hr p hp b hb
    rw [sU n hn hr p hp b hb]
    exact zp_sU_cg (bk := bk) (fun b hb => (dU n hn b hb).trans (if_neg hr)) p (fun q hq => G.2.1 n hn q (by omega)) b hb
  have eL : ∀ n, n < nd → rr n ≠ 0 → ∀ p, p ≤ ln n → ∀ b, b < bk → zp_sL se wy rx n (zp_sl QL n) p b = lw ((n * 5 + p) * 8 + b) := by
    intro n hn hr p hp b hb
    rw [sL n hn hr p hp b hb]
    exact zp_sL_cg (bk := bk) (fun b hb => (dL n hn b hb).trans (if_neg hr)) p (fun q hq => G.2.1 n hn q (by omega)) b hb
  have LU : zp_LU nd bk se wy ln rx eg QU := by
    refine ⟨⟨fun b hb => ?_, fun n hn hr s hs t e b hb => ?_⟩, fun Q hQ n hn b hb => ?_⟩
    · have e0 := dU 0 h1 b hb
      rw [if_neg r0, (hE 0 h1 r0 0 (Nat.zero_le _) b hb).1] at e0
      have e1 : QU (0 * 8 + b) = QU b := congrArg QU (by omega)
      rw [← e1, e0]
      unfold zy_FU
      rw [if_pos rfl]
      exact zy_jU_z (z := wy) _
    · have ht : t < nd := G.2.2 n hn s hs t e
      have hrt : rr t ≠ 0 := (hR t ht).mpr (zp_Rs hn hr hs e)
      have hrn : rr n ≠ 0 := (hR n hn).mpr hr
      rw [dU t ht b hb, if_neg hrt, eU n hn hrn _ (Nat.le_refl _) b hb, (hE t ht hrt 0 (Nat.zero_le _) b hb).1]
      unfold zy_FU
      rw [if_pos rfl]
      have hh : (n * 2 + s) / 2 = n := by omega
      have := zy_jU_v (rr := rr) (eg := eg) (n := t) (v := fun i => up ((i / 2 * 5 + ln (i / 2)) * 8 + b)) (z := zy_z wy t) (i := n * 2 + s) (by rw [hh]; exact hrn) e (nd * 2) (by omega)
      try dsimp only at this
      rw [hh] at this
      exact this
    · rw [dU n hn b hb]
      by_cases z : rr n = 0
      · rw [if_pos z]; exact Nat.zero_le _
      · rw [if_neg z]; exact h.2.2.1 Q hQ n hn z 0 (Nat.zero_le _) b hb
  have LL : zp_LL nd bk se wy ln rx eg QL := by
    refine ⟨⟨fun n hn b hb => ?_, fun n hn hr s hs t e b hb => ?_⟩, fun Q hQ n hn b hb => ?_⟩
    · rw [dL n hn b hb]
      split
      · exact Nat.le_refl _
      · exact (h.1 _ (by omega)).2
    · have ht : t < nd := G.2.2 n hn s hs t e
      have hrt : rr t ≠ 0 := (hR t ht).mpr (zp_Rs hn hr hs e)
      have hrn : rr n ≠ 0 := (hR n hn).mpr hr
      rw [dL t ht b hb, if_neg hrt, eL n hn hrn _ (Nat.le_refl _) b hb, (hE t ht hrt 0 (Nat.zero_le _) b hb).2]
      unfold zy_FL
      rw [if_pos rfl]
      have hh : (n * 2 + s) / 2 = n := by omega
      have := zy_jL_v (rr := rr) (eg := eg) (n := t) (v := fun i => lw ((i / 2 * 5 + ln (i / 2)) * 8 + b)) (z := wy) (i := n * 2 + s) (by rw [hh]; exact hrn) e (nd * 2) (by omega)
      try dsimp only at this
      rw [hh] at this
      exact this
    · rw [dL n hn b hb]
      by_cases z : rr n = 0
      · rw [if_pos z]; exact hQ.1 n hn b hb
      · rw [if_neg z]; exact h.2.2.2 Q hQ n hn z 0 (Nat.zero_le _) b hb
  intro n hn hr p hp b hb
  exact ⟨(eU n hn hr p hp b hb).symm.trans (zp_vU_of G LU hn hp hb), (eL n hn hr p hp b hb).symm.trans (zp_vL_of G LL hn hp hb)⟩
end
end
section
/-! the component: restart, tests of arguments -/
theorem zm_upP {P : Nat → Nat → Prop} {f : Nat → Nat} {i x : Nat} (h : ∀ s, s < i → P s (f s)) (hx : P i x) : ∀ s, s < i + 1 → P s (zm_up f i x s) := by
  intro s hs
  rcases Nat.decEq s i with e | e
  · rw [zm_upn e]; exact h s (by omega)
  · rw [e, zm_ups]; exact hx
theorem zs_hi {n : Nat} {v : Int32} (hn : n < 2 ^ 31) (h : nI n ≤ v) : ¬ v < 0 := by
  rw [Int32.le_iff_toInt_le, nI_toInt hn] at h
  rw [Int32.lt_iff_toInt_lt, show (0 : Int32).toInt = 0 from by decide]
  omega
theorem zs_hi2 {v : Int32} (h : nI 2 ≤ v) : 1 < v ∧ ¬ v = 0 ∧ ¬ v = 1 ∧ ¬ v ≤ 1 := by
  rw [Int32.le_iff_toInt_le, nI_toInt (by decide)] at h
  refine ⟨?_, ?_, ?_, ?_⟩
  · rw [Int32.lt_iff_toInt_lt, show (1 : Int32).toInt = 1 from by decide]; omega
  · intro z; rw [z, show (0 : Int32).toInt = 0 from by decide] at h; omega
  · intro z; rw [z, show (1 : Int32).toInt = 1 from by decide] at h; omega
  · rw [Int32.le_iff_toInt_le, show (1 : Int32).toInt = 1 from by decide]; omega
theorem zs_lo2 {v : Int32} (h : v < 0) : ¬ v = 0 ∧ ¬ v = 1 := by
  rw [Int32.lt_iff_toInt_lt, show (0 : Int32).toInt = 0 from by decide] at h
  refine ⟨?_, ?_⟩
  · intro z; rw [z, show (0 : Int32).toInt = 0 from by decide] at h; omega
  · intro z; rw [z, show (1 : Int32).toInt = 1 from by decide] at h; omega
section
variable {nd bk se wy st wn wp : Nat} {hit mis : Int32} {rx ln so rc iu il cu cl li fi : Nat → Nat} {eg : Nat → Option Nat}
theorem zx_rs {post : SX → Prop} (K : ∀ f : Nat → Nat, (∀ s, s < 4 → f s = 0) → post (nI nd, nI bk, nI se, nI wy, nI st, nI wn, nI wp, hit, mis, zm_em rx, zm_em ln, zm_eo eg, zm_em so, zm_em rc, zm_em iu, zm_em il, zm_em cu, zm_em cl, zm_em li, zm_em f)) : ∀ n i (f : Nat → Nat), i ≤ 4 → 4 - i < n → (∀ s, s < i → f s = 0) → wX_restart_22 post (nI nd) (nI bk) (nI se) (nI wy) (nI st) (nI wn) (nI wp) hit mis n (nI i) (zm_em rx) (zm_em ln) (zm_eo eg) (zm_em so) (zm_em rc) (zm_em iu) (zm_em il) (zm_em cu) (zm_em cl) (zm_em li) (zm_em f) := by
  intro n
  induction n with
  | zero => intro i f _ h; omega
  | succ n ih =>
    intro i f hi hn hf
    rcases Nat.lt_or_ge i 4 with h | h
    · simp (disch := omega) only [wX_restart_22, forall_eq, zm_em_a, zm_eo_a, zm_eL_a, zm_oi_s, zm_oi_n, zm_em_u, zm_em_u0, zm_em_b0, zm_em_b1, zm_eo_u, zm_eo_un, zm_eL_u, zm_eL_u0, nI_clamp, nI_1, nI_add, zs_m2, zs_m4, zs_m5, zs_m8, zs_d2, zs_s1, zs_in, zs_leT, zs_leF, zs_ltT, zs_ltF, zs_eqT, zs_eqF, zs_m1e, zs_oe, zs_0lt, zs_e0T, zs_e0F, zs_2n, true_implies, forall_const, not_true_eq_false, not_false_eq_true, false_implies, and_true, true_and, implies_true, zs_l1T, zs_l1F, zs_l2T, zs_l2F, zs_l4T, zs_l4F, zs_l8T, zs_l8F, zs_l16T, zs_l16F, zs_l32T, zs_l32F, zs_l64T, zs_l64F, zs_l320T, zs_l320F, zs_l513T, zs_l513F, zs_l2561T, zs_l2561F, zs_t4T, zs_t4F, zs_e1T, zs_e1F, zs_nl0T, zs_nl0F, zs_nb, pk_rem, lN_1, zs_lleT, zs_lleF, zs_le0T, zs_le0F]
      exact ih (i + 1) _ (by omega) (by omega) (zm_upP (P := fun _ x => x = 0) hf rfl)
    · have e : i = 4 := by omega
      subst e
      simp (disch := omega) only [wX_restart_22, forall_eq, zm_em_a, zm_eo_a, zm_eL_a, zm_oi_s, zm_oi_n, zm_em_u, zm_em_u0, zm_em_b0, zm_em_b1, zm_eo_u, zm_eo_un, zm_eL_u, zm_eL_u0, nI_clamp, nI_1, nI_add, zs_m2, zs_m4, zs_m5, zs_m8, zs_d2, zs_s1, zs_in, zs_leT, zs_leF, zs_ltT, zs_ltF, zs_eqT, zs_eqF, zs_m1e, zs_oe, zs_0lt, zs_e0T, zs_e0F, zs_2n, true_implies, forall_const, not_true_eq_false, not_false_eq_true, false_implies, and_true, true_and, implies_true, zs_l1T, zs_l1F, zs_l2T, zs_l2F, zs_l4T, zs_l4F, zs_l8T, zs_l8F, zs_l16T, zs_l16F, zs_l32T, zs_l32F, zs_l64T, zs_l64F, zs_l320T, zs_l320F, zs_l513T, zs_l513F, zs_l2561T, zs_l2561F, zs_t4T, zs_t4F, zs_e1T, zs_e1F, zs_nl0T, zs_nl0F, zs_nb, pk_rem, lN_1, zs_lleT, zs_lleF, zs_le0T, zs_le0F]
      exact K f hf
theorem zx_restart {post : SX → Prop} (K : ∀ f : Nat → Nat, (∀ s, s < 4 → f s = 0) → post (nI nd, nI bk, nI se, nI wy, nI st, nI 0, nI 0, 0, 0, zm_em rx, zm_em ln, zm_eo eg, zm_em so, zm_em rc, zm_em iu, zm_em il, zm_em cu, zm_em cl, zm_em li, zm_em f)) : wpX_restart post (nI nd, nI bk, nI se, nI wy, nI st, nI wn, nI wp, hit, mis, zm_em rx, zm_em ln, zm_eo eg, zm_em so, zm_em rc, zm_em iu, zm_em il, zm_em cu, zm_em cl, zm_em li, zm_em fi) :=
  ⟨5, zx_rs (wn := 0) (wp := 0) (hit := 0) (mis := 0) K 5 0 fi (by omega) (by omega) (fun s hs => absurd hs (by omega))⟩
theorem zx_edited {post : SX → Prop} (K : ∀ f : Nat → Nat, (∀ s, s < 4 → f s = 0) → post (nI nd, nI bk, nI se, nI wy, nI 1, nI 0, nI 0, 0, 0, zm_em rx, zm_em ln, zm_eo eg, zm_em so, zm_em rc, zm_em iu, zm_em il, zm_em cu, zm_em cl, zm_em li, zm_em f)) : wpX_edited post (nI nd, nI bk, nI se, nI wy, nI st, nI wn, nI wp, hit, mis, zm_em rx, zm_em ln, zm_eo eg, zm_em so, zm_em rc, zm_em iu, zm_em il, zm_em cu, zm_em cl, zm_em li, zm_em fi) := by
  unfold wpX_edited
  exact zx_restart (st := 1) (fun f hf => K f hf)
theorem zx_nodeT {post : Int32 → Prop} {n : Nat} (hn : n < nd) (h8 : nd ≤ 8) (K : post 1) : wpX_isNode post (nI nd, nI bk, nI se, nI wy, nI st, nI wn, nI wp, hit, mis, zm_em rx, zm_em ln, zm_eo eg, zm_em so, zm_em rc, zm_em iu, zm_em il, zm_em cu, zm_em cl, zm_em li, zm_em fi) (nI n) :=
  br_f (nI_pos (by omega)) (br_f (nI_ge hn (by omega)) K)
theorem zx_nodeF {post : Int32 → Prop} {v : Int32} (h8 : nd ≤ 8) (h : v < 0 ∨ nI nd ≤ v) (K : post 0) : wpX_isNode post (nI nd, nI bk, nI se, nI wy, nI st, nI wn, nI wp, hit, mis, zm_em rx, zm_em ln, zm_eo eg, zm_em so, zm_em rc, zm_em iu, zm_em il, zm_em cu, zm_em cl, zm_em li, zm_em fi) v := by
  rcases h with h | h
  · exact br_t h K
  · exact br_f (zs_hi (by omega) h) (br_t h K)
theorem zx_blockT {post : Int32 → Prop} {n : Nat} (hn : n < bk) (h8 : bk ≤ 8) (K : post 1) : wpX_isBlock post (nI nd, nI bk, nI se, nI wy, nI st, nI wn, nI wp, hit, mis, zm_em rx, zm_em ln, zm_eo eg, zm_em so, zm_em rc, zm_em iu, zm_em il, zm_em cu, zm_em cl, zm_em li, zm_em fi) (nI n) :=
  br_f (nI_pos (by omega)) (br_f (nI_ge hn (by omega)) K)
theorem zx_blockF {post : Int32 → Prop} {v : Int32} (h8 : bk ≤ 8) (h : v < 0 ∨ nI bk ≤ v) (K : post 0) : wpX_isBlock post (nI nd, nI bk, nI se, nI wy, nI st, nI wn, nI wp, hit, mis, zm_em rx, zm_em ln, zm_eo eg, zm_em so, zm_em rc, zm_em iu, zm_em il, zm_em cu, zm_em cl, zm_em li, zm_em fi) v := by
  rcases h with h | h
  · exact br_t h K
  · exact br_f (zs_hi (by omega) h) (br_t h K)
theorem zx_slotT {post : Int32 → Prop} {s : Nat} (hs : s < 2) (K : post 1) : wpX_isSlot post (nI nd, nI bk, nI se, nI wy, nI st, nI wn, nI wp, hit, mis, zm_em rx, zm_em ln, zm_eo eg, zm_em so, zm_em rc, zm_em iu, zm_em il, zm_em cu, zm_em cl, zm_em li, zm_em fi) (nI s) := by
  rcases Nat.eq_zero_or_pos s with e | e
  · subst e; exact br_t nI_0 K
  · have e : s = 1 := by omega
    subst e; exact br_f (by decide) (br_t rfl K)
theorem zx_slotF {post : Int32 → Prop} {v : Int32} (h : v < 0 ∨ nI 2 ≤ v) (K : post 0) : wpX_isSlot post (nI nd, nI bk, nI se, nI wy, nI st, nI wn, nI wp, hit, mis, zm_em rx, zm_em ln, zm_eo eg, zm_em so, zm_em rc, zm_em iu, zm_em il, zm_em cu, zm_em cl, zm_em li, zm_em fi) v := by
  rcases h with h | h
  · exact br_f (zs_lo2 h).1 (br_f (zs_lo2 h).2 K)
  · exact br_f (zs_hi2 h).2.1 (br_f (zs_hi2 h).2.2.1 K)
end
end
section
/-! the component: findReached, startBounds -/
section
variable {nd bk se wy st wn wp : Nat} {hit mis : Int32} {rx ln so rc iu il cu cl li fi : Nat → Nat} {eg : Nat → Option Nat}
theorem zx_mt {post : SX → Prop} {n k : Nat} (h8 : nd ≤ 8) (hn : n < nd) (hE : ∀ n, n < nd → ∀ s, s < 2 → ∀ t, eg (n * 2 + s) = some t → t < nd)
    (K : ∀ r : Nat → Nat, zr_B nd eg r → r n ≠ 0 → zr_J nd eg k (n * 2 + 2) r → post (nI nd, nI bk, nI se, nI wy, nI st, nI wn, nI wp, hit, mis, zm_em rx, zm_em ln, zm_eo eg, zm_em so, zm_em r, zm_em iu, zm_em il, zm_em cu, zm_em cl, zm_em li, zm_em fi)) : ∀ f s (r : Nat → Nat), s ≤ 2 → 2 - s < f → zr_B nd eg r → r n ≠ 0 → zr_J nd eg k (n * 2 + s) r → wX_markTargets_2 post (nI n) (nI nd) (nI bk) (nI se) (nI wy) (nI st) (nI wn) (nI wp) hit mis f (nI s) (zm_em rx) (zm_em ln) (zm_eo eg) (zm_em so) (zm_em r) (zm_em iu) (zm_em il) (zm_em cu) (zm_em cl) (zm_em li) (zm_em fi) := by
  intro f
  induction f with
  | zero => intro s r _ h; omega
  | succ f ih =>
    intro s r hs hf B hr J
    rcases Nat.lt_or_ge s 2 with h | h
    · rcases e : eg (n * 2 + s) with _ | t
      · simp (disch := omega) only [wX_markTargets_2, e, forall_eq, zm_em_a, zm_eo_a, zm_eL_a, zm_oi_s, zm_oi_n, zm_em_u, zm_em_u0, zm_em_b0, zm_em_b1, zm_eo_u, zm_eo_un, zm_eL_u, zm_eL_u0, nI_clamp, nI_1, nI_add, zs_m2, zs_m4, zs_m5, zs_m8, zs_d2, zs_s1, zs_in, zs_leT, zs_leF, zs_ltT, zs_ltF, zs_eqT, zs_eqF, zs_m1e, zs_oe, zs_0lt, zs_e0T, zs_e0F, zs_2n, true_implies, forall_const, not_true_eq_false, not_false_eq_true, false_implies, and_true, true_and, implies_true, zs_l1T, zs_l1F, zs_l2T, zs_l2F, zs_l4T, zs_l4F, zs_l8T, zs_l8F, zs_l16T, zs_l16F, zs_l32T, zs_l32F, zs_l64T, zs_l64F, zs_l320T, zs_l320F, zs_l513T, zs_l513F, zs_l2561T, zs_l2561F, zs_t4T, zs_t4F, zs_e1T, zs_e1F, zs_nl0T, zs_nl0F, zs_nb, pk_rem, lN_1, zs_lleT, zs_lleF, zs_le0T, zs_le0F]
        exact ih (s + 1) r (by omega) (by omega) B hr (zr_skip h J (Or.inr e))
      · have ht := hE n hn s h t e
        simp (disch := omega) only [wX_markTargets_2, e, forall_eq, zm_em_a, zm_eo_a, zm_eL_a, zm_oi_s, zm_oi_n, zm_em_u, zm_em_u0, zm_em_b0, zm_em_b1, zm_eo_u, zm_eo_un, zm_eL_u, zm_eL_u0, nI_clamp, nI_1, nI_add, zs_m2, zs_m4, zs_m5, zs_m8, zs_d2, zs_s1, zs_in, zs_leT, zs_leF, zs_ltT, zs_ltF, zs_eqT, zs_eqF, zs_m1e, zs_oe, zs_0lt, zs_e0T, zs_e0F, zs_2n, true_implies, forall_const, not_true_eq_false, not_false_eq_true, false_implies, and_true, true_and, implies_true, zs_l1T, zs_l1F, zs_l2T, zs_l2F, zs_l4T, zs_l4F, zs_l8T, zs_l8F, zs_l16T, zs_l16F, zs_l32T, zs_l32F, zs_l64T, zs_l64F, zs_l320T, zs_l320F, zs_l513T, zs_l513F, zs_l2561T, zs_l2561F, zs_t4T, zs_t4F, zs_e1T, zs_e1F, zs_nl0T, zs_nl0F, zs_nb, pk_rem, lN_1, zs_lleT, zs_lleF, zs_le0T, zs_le0F]
        exact ih (s + 1) _ (by omega) (by omega) (zr_B_m hn h hr e B) (zr_nz hr) (zr_mark hn h ht hr e J)
    · have e : s = 2 := by omega
      subst e
      simp (disch := omega) only [wX_markTargets_2, forall_eq, zm_em_a, zm_eo_a, zm_eL_a, zm_oi_s, zm_oi_n, zm_em_u, zm_em_u0, zm_em_b0, zm_em_b1, zm_eo_u, zm_eo_un, zm_eL_u, zm_eL_u0, nI_clamp, nI_1, nI_add, zs_m2, zs_m4, zs_m5, zs_m8, zs_d2, zs_s1, zs_in, zs_leT, zs_leF, zs_ltT, zs_ltF, zs_eqT, zs_eqF, zs_m1e, zs_oe, zs_0lt, zs_e0T, zs_e0F, zs_2n, true_implies, forall_const, not_true_eq_false, not_false_eq_true, false_implies, and_true, true_and, implies_true, zs_l1T, zs_l1F, zs_l2T, zs_l2F, zs_l4T, zs_l4F, zs_l8T, zs_l8F, zs_l16T, zs_l16F, zs_l32T, zs_l32F, zs_l64T, zs_l64F, zs_l320T, zs_l320F, zs_l513T, zs_l513F, zs_l2561T, zs_l2561F, zs_t4T, zs_t4F, zs_e1T, zs_e1F, zs_nl0T, zs_nl0F, zs_nb, pk_rem, lN_1, zs_lleT, zs_lleF, zs_le0T, zs_le0F]
      exact K r B hr J
theorem zx_f39 {post : SX → Prop} {J31 : Int32 → Int32 → Int32 → Int32 → Int32 → Int32 → Int32 → Int32 → Int32 → Int32 → (Nat → Int32) → (Nat → Int32) → (Nat → Int32) → (Nat → Int32) → (Nat → Int32) → (Nat → Int32) → (Nat → Int32) → (Nat → Int32) → (Nat → Int32) → (Nat → Int32) → (Nat → Int32) → Prop} {k : Nat} (h8 : nd ≤ 8) (hE : ∀ n, n < nd → ∀ s, s < 2 → ∀ t, eg (n * 2 + s) = some t → t < nd)
    (K : ∀ r : Nat → Nat, zr_B nd eg r → zr_O nd eg (k + 1) r → J31 (nI (k + 1)) (nI nd) (nI bk) (nI se) (nI wy) (nI st) (nI wn) (nI wp) hit mis (zm_em rx) (zm_em ln) (zm_eo eg) (zm_em so) (zm_em r) (zm_em iu) (zm_em il) (zm_em cu) (zm_em cl) (zm_em li) (zm_em fi)) : ∀ f n (r : Nat → Nat), n ≤ nd → nd - n < f → zr_B nd eg r → zr_J nd eg k (n * 2) r → wX_findReached_39 post J31 (nI k) f (nI n) (nI nd) (nI bk) (nI se) (nI wy) (nI st) (nI wn) (nI wp) hit mis (zm_em rx) (zm_em ln) (zm_eo eg) (zm_em so) (zm_em r) (zm_em iu) (zm_em il) (zm_em cu) (zm_em cl) (zm_em li) (zm_em fi) := by
  intro f
  induction f with
  | zero => intro n r _ h; omega
  | succ f ih =>
    intro n r hn hf B J
    rcases Nat.lt_or_ge n nd with h | h
    · have hb := B.1 n h
      by_cases hr : r n = 0
      · simp (disch := omega) only [wX_findReached_39, forall_eq, zm_em_a, zm_eo_a, zm_eL_a, zm_oi_s, zm_oi_n, zm_em_u, zm_em_u0, zm_em_b0, zm_em_b1, zm_eo_u, zm_eo_un, zm_eL_u, zm_eL_u0, nI_clamp, nI_1, nI_add, zs_m2, zs_m4, zs_m5, zs_m8, zs_d2, zs_s1, zs_in, zs_leT, zs_leF, zs_ltT, zs_ltF, zs_eqT, zs_eqF, zs_m1e, zs_oe, zs_0lt, zs_e0T, zs_e0F, zs_2n, true_implies, forall_const, not_true_eq_false, not_false_eq_true, false_implies, and_true, true_and, implies_true, zs_l1T, zs_l1F, zs_l2T, zs_l2F, zs_l4T, zs_l4F, zs_l8T, zs_l8F, zs_l16T, zs_l16F, zs_l32T, zs_l32F, zs_l64T, zs_l64F, zs_l320T, zs_l320F, zs_l513T, zs_l513F, zs_l2561T, zs_l2561F, zs_t4T, zs_t4F, zs_e1T, zs_e1F, zs_nl0T, zs_nl0F, zs_nb, pk_rem, lN_1, zs_lleT, zs_lleF, zs_le0T, zs_le0F]
        exact ih (n + 1) r (by omega) (by omega) B (by rw [Nat.add_mul]; exact zr_skip (s := 1) (by decide) (zr_skip (s := 0) (by decide) J (Or.inl hr)) (Or.inl hr))
      · simp (disch := omega) only [wX_findReached_39, wpX_markTargets, forall_eq, zm_em_a, zm_eo_a, zm_eL_a, zm_oi_s, zm_oi_n, zm_em_u, zm_em_u0, zm_em_b0, zm_em_b1, zm_eo_u, zm_eo_un, zm_eL_u, zm_eL_u0, nI_clamp, nI_1, nI_add, zs_m2, zs_m4, zs_m5, zs_m8, zs_d2, zs_s1, zs_in, zs_leT, zs_leF, zs_ltT, zs_ltF, zs_eqT, zs_eqF, zs_m1e, zs_oe, zs_0lt, zs_e0T, zs_e0F, zs_2n, true_implies, forall_const, not_true_eq_false, not_false_eq_true, false_implies, and_true, true_and, implies_true, zs_l1T, zs_l1F, zs_l2T, zs_l2F, zs_l4T, zs_l4F, zs_l8T, zs_l8F, zs_l16T, zs_l16F, zs_l32T, zs_l32F, zs_l64T, zs_l64F, zs_l320T, zs_l320F, zs_l513T, zs_l513F, zs_l2561T, zs_l2561F, zs_t4T, zs_t4F, zs_e1T, zs_e1F, zs_nl0T, zs_nl0F, zs_nb, pk_rem, lN_1, zs_lleT, zs_lleF, zs_le0T, zs_le0F]
        refine ⟨3, zx_mt (k := k) h8 h hE (fun r' B' hr' J' => ?_) 3 0 r (by omega) (by omega) B hr J⟩
        exact ih (n + 1) r' (by omega) (by omega) B' (by rw [Nat.add_mul]; exact J')
    · have e : n = nd := by omega
      subst e
      simp (disch := omega) only [wX_findReached_39, forall_eq, zm_em_a, zm_eo_a, zm_eL_a, zm_oi_s, zm_oi_n, zm_em_u, zm_em_u0, zm_em_b0, zm_em_b1, zm_eo_u, zm_eo_un, zm_eL_u, zm_eL_u0, nI_clamp, nI_1, nI_add, zs_m2, zs_m4, zs_m5, zs_m8, zs_d2, zs_s1, zs_in, zs_leT, zs_leF, zs_ltT, zs_ltF, zs_eqT, zs_eqF, zs_m1e, zs_oe, zs_0lt, zs_e0T, zs_e0F, zs_2n, true_implies, forall_const, not_true_eq_false, not_false_eq_true, false_implies, and_true, true_and, implies_true, zs_l1T, zs_l1F, zs_l2T, zs_l2F, zs_l4T, zs_l4F, zs_l8T, zs_l8F, zs_l16T, zs_l16F, zs_l32T, zs_l32F, zs_l64T, zs_l64F, zs_l320T, zs_l320F, zs_l513T, zs_l513F, zs_l2561T, zs_l2561F, zs_t4T, zs_t4F, zs_e1T, zs_e1F, zs_nl0T, zs_nl0F, zs_nb, pk_rem, lN_1, zs_lleT, zs_lleF, zs_le0T, zs_le0F]
      exact K r B (zr_JE J)
theorem zx_f31 {post : SX → Prop} (h8 : nd ≤ 8) (hE : ∀ n, n < nd → ∀ s, s < 2 → ∀ t, eg (n * 2 + s) = some t → t < nd)
    (K : ∀ r : Nat → Nat, zr_B nd eg r → zr_O nd eg 8 r → post (nI nd, nI bk, nI se, nI wy, nI st, nI wn, nI wp, hit, mis, zm_em rx, zm_em ln, zm_eo eg, zm_em so, zm_em r, zm_em iu, zm_em il, zm_em cu, zm_em cl, zm_em li, zm_em fi)) : ∀ f k (r : Nat → Nat), k ≤ 8 → 8 - k < f → zr_B nd eg r → zr_O nd eg k r → wX_findReached_31 post f (nI k) (nI nd) (nI bk) (nI se) (nI wy) (nI st) (nI wn) (nI wp) hit mis (zm_em rx) (zm_em ln) (zm_eo eg) (zm_em so) (zm_em r) (zm_em iu) (zm_em il) (zm_em cu) (zm_em cl) (zm_em li) (zm_em fi) := by
  intro f
  induction f with
  | zero => intro k r _ h; omega
  | succ f ih =>
    intro k r hk hf B O
    rcases Nat.lt_or_ge k 8 with h | h
    · simp (disch := omega) only [wX_findReached_31, forall_eq, zm_em_a, zm_eo_a, zm_eL_a, zm_oi_s, zm_oi_n, zm_em_u, zm_em_u0, zm_em_b0, zm_em_b1, zm_eo_u, zm_eo_un, zm_eL_u, zm_eL_u0, nI_clamp, nI_1, nI_add, zs_m2, zs_m4, zs_m5, zs_m8, zs_d2, zs_s1, zs_in, zs_leT, zs_leF, zs_ltT, zs_ltF, zs_eqT, zs_eqF, zs_m1e, zs_oe, zs_0lt, zs_e0T, zs_e0F, zs_2n, true_implies, forall_const, not_true_eq_false, not_false_eq_true, false_implies, and_true, true_and, implies_true, zs_l1T, zs_l1F, zs_l2T, zs_l2F, zs_l4T, zs_l4F, zs_l8T, zs_l8F, zs_l16T, zs_l16F, zs_l32T, zs_l32F, zs_l64T, zs_l64F, zs_l320T, zs_l320F, zs_l513T, zs_l513F, zs_l2561T, zs_l2561F, zs_t4T, zs_t4F, zs_e1T, zs_e1F, zs_nl0T, zs_nl0F, zs_nb, pk_rem, lN_1, zs_lleT, zs_lleF, zs_le0T, zs_le0F]
      exact ⟨9, zx_f39 (k := k) h8 hE (fun r' B' O' => ih (k + 1) r' (by omega) (by omega) B' O') 9 0 r (by omega) (by omega) B (zr_J0 O)⟩
    · have e : k = 8 := by omega
      subst e
      simp (disch := omega) only [wX_findReached_31, forall_eq, zm_em_a, zm_eo_a, zm_eL_a, zm_oi_s, zm_oi_n, zm_em_u, zm_em_u0, zm_em_b0, zm_em_b1, zm_eo_u, zm_eo_un, zm_eL_u, zm_eL_u0, nI_clamp, nI_1, nI_add, zs_m2, zs_m4, zs_m5, zs_m8, zs_d2, zs_s1, zs_in, zs_leT, zs_leF, zs_ltT, zs_ltF, zs_eqT, zs_eqF, zs_m1e, zs_oe, zs_0lt, zs_e0T, zs_e0F, zs_2n, true_implies, forall_const, not_true_eq_false, not_false_eq_true, false_implies, and_true, true_and, implies_true, zs_l1T, zs_l1F, zs_l2T, zs_l2F, zs_l4T, zs_l4F, zs_l8T, zs_l8F, zs_l16T, zs_l16F, zs_l32T, zs_l32F, zs_l64T, zs_l64F, zs_l320T, zs_l320F, zs_l513T, zs_l513F, zs_l2561T, zs_l2561F, zs_t4T, zs_t4F, zs_e1T, zs_e1F, zs_nl0T, zs_nl0F, zs_nb, pk_rem, lN_1, zs_lleT, zs_lleF, zs_le0T, zs_le0F]
      exact K r B O
theorem zx_f2 {post : SX → Prop} (h1 : 1 ≤ nd) (h8 : nd ≤ 8) (hE : ∀ n, n < nd → ∀ s, s < 2 → ∀ t, eg (n * 2 + s) = some t → t < nd)
    (K : ∀ r : Nat → Nat, zr_B nd eg r → zr_O nd eg 8 r → post (nI nd, nI bk, nI se, nI wy, nI st, nI wn, nI wp, hit, mis, zm_em rx, zm_em ln, zm_eo eg, zm_em so, zm_em r, zm_em iu, zm_em il, zm_em cu, zm_em cl, zm_em li, zm_em fi)) : ∀ f i (r : Nat → Nat), i ≤ 8 → 8 - i < f → (∀ s, s < i → r s = if s = 0 then 1 else 0) → wX_findReached_2 post (nI nd) (nI bk) (nI se) (nI wy) (nI st) (nI wn) (nI wp) hit mis f (nI i) (zm_em rx) (zm_em ln) (zm_eo eg) (zm_em so) (zm_em r) (zm_em iu) (zm_em il) (zm_em cu) (zm_em cl) (zm_em li) (zm_em fi) := by
  intro f
  induction f with
  | zero => intro i r _ h; omega
  | succ f ih =>
    intro i r hi hf hr
    rcases Nat.lt_or_ge i 8 with h | h
    · by_cases e : i = 0
      · subst e
        simp (disch := omega) only [wX_findReached_2, forall_eq, zm_em_a, zm_eo_a, zm_eL_a, zm_oi_s, zm_oi_n, zm_em_u, zm_em_u0, zm_em_b0, zm_em_b1, zm_eo_u, zm_eo_un, zm_eL_u, zm_eL_u0, nI_clamp, nI_1, nI_add, zs_m2, zs_m4, zs_m5, zs_m8, zs_d2, zs_s1, zs_in, zs_leT, zs_leF, zs_ltT, zs_ltF, zs_eqT, zs_eqF, zs_m1e, zs_oe, zs_0lt, zs_e0T, zs_e0F, zs_2n, true_implies, forall_const, not_true_eq_false, not_false_eq_true, false_implies, and_true, true_and, implies_true, zs_l1T, zs_l1F, zs_l2T, zs_l2F, zs_l4T, zs_l4F, zs_l8T, zs_l8F, zs_l16T, zs_l16F, zs_l32T, zs_l32F, zs_l64T, zs_l64F, zs_l320T, zs_l320F, zs_l513T, zs_l513F, zs_l2561T, zs_l2561F, zs_t4T, zs_t4F, zs_e1T, zs_e1F, zs_nl0T, zs_nl0F, zs_nb, pk_rem, lN_1, zs_lleT, zs_lleF, zs_le0T, zs_le0F]
        exact ih 1 _ (by omega) (by omega) (zm_upP (P := fun s x => x = if s = 0 then 1 else 0) hr rfl)
      · simp (disch := omega) only [wX_findReached_2, forall_eq, zm_em_a, zm_eo_a, zm_eL_a, zm_oi_s, zm_oi_n, zm_em_u, zm_em_u0, zm_em_b0, zm_em_b1, zm_eo_u, zm_eo_un, zm_eL_u, zm_eL_u0, nI_clamp, nI_1, nI_add, zs_m2, zs_m4, zs_m5, zs_m8, zs_d2, zs_s1, zs_in, zs_leT, zs_leF, zs_ltT, zs_ltF, zs_eqT, zs_eqF, zs_m1e, zs_oe, zs_0lt, zs_e0T, zs_e0F, zs_2n, true_implies, forall_const, not_true_eq_false, not_false_eq_true, false_implies, and_true, true_and, implies_true, zs_l1T, zs_l1F, zs_l2T, zs_l2F, zs_l4T, zs_l4F, zs_l8T, zs_l8F, zs_l16T, zs_l16F, zs_l32T, zs_l32F, zs_l64T, zs_l64F, zs_l320T, zs_l320F, zs_l513T, zs_l513F, zs_l2561T, zs_l2561F, zs_t4T, zs_t4F, zs_e1T, zs_e1F, zs_nl0T, zs_nl0F, zs_nb, pk_rem, lN_1, zs_lleT, zs_lleF, zs_le0T, zs_le0F]
        exact ih (i + 1) _ (by omega) (by omega) (zm_upP (P := fun s x => x = if s = 0 then 1 else 0) hr (if_neg e).symm)
    · have e : i = 8 := by omega
      subst e
      simp (disch := omega) only [wX_findReached_2, forall_eq, zm_em_a, zm_eo_a, zm_eL_a, zm_oi_s, zm_oi_n, zm_em_u, zm_em_u0, zm_em_b0, zm_em_b1, zm_eo_u, zm_eo_un, zm_eL_u, zm_eL_u0, nI_clamp, nI_1, nI_add, zs_m2, zs_m4, zs_m5, zs_m8, zs_d2, zs_s1, zs_in, zs_leT, zs_leF, zs_ltT, zs_ltF, zs_eqT, zs_eqF, zs_m1e, zs_oe, zs_0lt, zs_e0T, zs_e0F, zs_2n, true_implies, forall_const, not_true_eq_false, not_false_eq_true, false_implies, and_true, true_and, implies_true, zs_l1T, zs_l1F, zs_l2T, zs_l2F, zs_l4T, zs_l4F, zs_l8T, zs_l8F, zs_l16T, zs_l16F, zs_l32T, zs_l32F, zs_l64T, zs_l64F, zs_l320T, zs_l320F, zs_l513T, zs_l513F, zs_l2561T, zs_l2561F, zs_t4T, zs_t4F, zs_e1T, zs_e1F, zs_nl0T, zs_nl0F, zs_nb, pk_rem, lN_1, zs_lleT, zs_lleF, zs_le0T, zs_le0F]
      have B : zr_B nd eg r := by
        refine ⟨fun j hj => ?_, ?_, fun n hn hz => ?_⟩
        · rw [hr j (by omega)]; split <;> omega
        · rw [hr 0 (by omega)]; decide
        · rw [hr n (by omega)] at hz
          by_cases e : n = 0
          · rw [e]; exact zp_R0 nd eg
          · rw [if_neg e] at hz; exact absurd rfl hz
      exact ⟨9, zx_f31 h8 hE K 9 0 r (by omega) (by omega) B (zr_O0 h1 B)⟩
theorem zx_findReached {post : SX → Prop} (h1 : 1 ≤ nd) (h8 : nd ≤ 8) (hE : ∀ n, n < nd → ∀ s, s < 2 → ∀ t, eg (n * 2 + s) = some t → t < nd)
    (K : ∀ r : Nat → Nat, (∀ n, n < nd → r n ≤ 1) → (∀ n, n < nd → (r n ≠ 0 ↔ zp_R nd eg n)) → post (nI nd, nI bk, nI se, nI wy, nI st, nI wn, nI wp, hit, mis, zm_em rx, zm_em ln, zm_eo eg, zm_em so, zm_em r, zm_em iu, zm_em il, zm_em cu, zm_em cl, zm_em li, zm_em fi)) : wpX_findReached post (nI nd, nI bk, nI se, nI wy, nI st, nI wn, nI wp, hit, mis, zm_em rx, zm_em ln, zm_eo eg, zm_em so, zm_em rc, zm_em iu, zm_em il, zm_em cu, zm_em cl, zm_em li, zm_em fi) :=
  ⟨9, zx_f2 h1 h8 hE (fun r B O => K r B.1 (zr_fin B O h8)) 9 0 rc (by omega) (by omega) (fun s hs => absurd hs (by omega))⟩
theorem zx_sb33 {post : SX → Prop} (K : ∀ u : Nat → Nat, (∀ j, j < 64 → u j = if j < 8 then wy else 0) → post (nI nd, nI bk, nI se, nI wy, nI st, nI wn, nI wp, hit, mis, zm_em rx, zm_em ln, zm_eo eg, zm_em so, zm_em rc, zm_em u, zm_em il, zm_em cu, zm_em cl, zm_em li, zm_em fi)) : ∀ f i (u : Nat → Nat), i ≤ 8 → 8 - i < f → (∀ j, j < 64 → u j = if j < i then wy else 0) → wX_startBounds_33 post (nI nd) (nI bk) (nI se) (nI wy) (nI st) (nI wn) (nI wp) hit mis f (nI i) (zm_em rx) (zm_em ln) (zm_eo eg) (zm_em so) (zm_em rc) (zm_em u) (zm_em il) (zm_em cu) (zm_em cl) (zm_em li) (zm_em fi) := by
  intro f
  induction f with
  | zero => intro i r _ h; omega
  | succ f ih =>
    intro i u hi hf hu
    rcases Nat.lt_or_ge i 8 with h | h
    · simp (disch := omega) only [wX_startBounds_33, forall_eq, zm_em_a, zm_eo_a, zm_eL_a, zm_oi_s, zm_oi_n, zm_em_u, zm_em_u0, zm_em_b0, zm_em_b1, zm_eo_u, zm_eo_un, zm_eL_u, zm_eL_u0, nI_clamp, nI_1, nI_add, zs_m2, zs_m4, zs_m5, zs_m8, zs_d2, zs_s1, zs_in, zs_leT, zs_leF, zs_ltT, zs_ltF, zs_eqT, zs_eqF, zs_m1e, zs_oe, zs_0lt, zs_e0T, zs_e0F, zs_2n, true_implies, forall_const, not_true_eq_false, not_false_eq_true, false_implies, and_true, true_and, implies_true, zs_l1T, zs_l1F, zs_l2T, zs_l2F, zs_l4T, zs_l4F, zs_l8T, zs_l8F, zs_l16T, zs_l16F, zs_l32T, zs_l32F, zs_l64T, zs_l64F, zs_l320T, zs_l320F, zs_l513T, zs_l513F, zs_l2561T, zs_l2561F, zs_t4T, zs_t4F, zs_e1T, zs_e1F, zs_nl0T, zs_nl0F, zs_nb, pk_rem, lN_1, zs_lleT, zs_lleF, zs_le0T, zs_le0F]
      refine ih (i + 1) _ (by omega) (by omega) (fun j hj => ?_)
      rcases Nat.decEq j i with e | e
      · rw [zm_upn e, hu j hj]
        by_cases q : j < i
        · rw [if_pos q, if_pos (by omega)]
        · rw [if_neg q, if_neg (by omega)]
      · rw [e, zm_ups, if_pos (by omega)]
    · have e : i = 8 := by omega
      subst e
      simp (disch := omega) only [wX_startBounds_33, forall_eq, zm_em_a, zm_eo_a, zm_eL_a, zm_oi_s, zm_oi_n, zm_em_u, zm_em_u0, zm_em_b0, zm_em_b1, zm_eo_u, zm_eo_un, zm_eL_u, zm_eL_u0, nI_clamp, nI_1, nI_add, zs_m2, zs_m4, zs_m5, zs_m8, zs_d2, zs_s1, zs_in, zs_leT, zs_leF, zs_ltT, zs_ltF, zs_eqT, zs_eqF, zs_m1e, zs_oe, zs_0lt, zs_e0T, zs_e0F, zs_2n, true_implies, forall_const, not_true_eq_false, not_false_eq_true, false_implies, and_true, true_and, implies_true, zs_l1T, zs_l1F, zs_l2T, zs_l2F, zs_l4T, zs_l4F, zs_l8T, zs_l8F, zs_l16T, zs_l16F, zs_l32T, zs_l32F, zs_l64T, zs_l64F, zs_l320T, zs_l320F, zs_l513T, zs_l513F, zs_l2561T, zs_l2561F, zs_t4T, zs_t4F, zs_e1T, zs_e1F, zs_nl0T, zs_nl0F, zs_nb, pk_rem, lN_1, zs_lleT, zs_lleF, zs_le0T, zs_le0F]
      exact K u hu
theorem zx_sb2 {post : SX → Prop} (K : ∀ u l : Nat → Nat, (∀ j, j < 64 → u j = if j < 8 then wy else 0) → (∀ j, j < 64 → l j = wy) → post (nI nd, nI bk, nI se, nI wy, nI st, nI wn, nI wp, hit, mis, zm_em rx, zm_em ln, zm_eo eg, zm_em so, zm_em rc, zm_em u, zm_em l, zm_em cu, zm_em cl, zm_em li, zm_em fi)) : ∀ f i (u l : Nat → Nat), i ≤ 64 → 64 - i < f → (∀ j, j < i → u j = 0) → (∀ j, j < i → l j = wy) → wX_startBounds_2 post (nI nd) (nI bk) (nI se) (nI wy) (nI st) (nI wn) (nI wp) hit mis f (nI i) (zm_em rx) (zm_em ln) (zm_eo eg) (zm_em so) (zm_em rc) (zm_em u) (zm_em l) (zm_em cu) (zm_em cl) (zm_em li) (zm_em fi) := by
  intro f
  induction f with
  | zero => intro i u l _ h; omega
  | succ f ih =>
    intro i u l hi hf hu hl
    rcases Nat.lt_or_ge i 64 with h | h
    · simp (disch := omega) only [wX_startBounds_2, forall_eq, zm_em_a, zm_eo_a, zm_eL_a, zm_oi_s, zm_oi_n, zm_em_u, zm_em_u0, zm_em_b0, zm_em_b1, zm_eo_u, zm_eo_un, zm_eL_u, zm_eL_u0, nI_clamp, nI_1, nI_add, zs_m2, zs_m4, zs_m5, zs_m8, zs_d2, zs_s1, zs_in, zs_leT, zs_leF, zs_ltT, zs_ltF, zs_eqT, zs_eqF, zs_m1e, zs_oe, zs_0lt, zs_e0T, zs_e0F, zs_2n, true_implies, forall_const, not_true_eq_false, not_false_eq_true, false_implies, and_true, true_and, implies_true, zs_l1T, zs_l1F, zs_l2T, zs_l2F, zs_l4T, zs_l4F, zs_l8T, zs_l8F, zs_l16T, zs_l16F, zs_l32T, zs_l32F, zs_l64T, zs_l64F, zs_l320T, zs_l320F, zs_l513T, zs_l513F, zs_l2561T, zs_l2561F, zs_t4T, zs_t4F, zs_e1T, zs_e1F, zs_nl0T, zs_nl0F, zs_nb, pk_rem, lN_1, zs_lleT, zs_lleF, zs_le0T, zs_le0F]
      exact ih (i + 1) _ _ (by omega) (by omega) (zm_upP (P := fun _ x => x = 0) hu rfl) (zm_upP (P := fun _ x => x = wy) hl rfl)
    · have e : i = 64 := by omega
      subst e
      simp (disch := omega) only [wX_startBounds_2, forall_eq, zm_em_a, zm_eo_a, zm_eL_a, zm_oi_s, zm_oi_n, zm_em_u, zm_em_u0, zm_em_b0, zm_em_b1, zm_eo_u, zm_eo_un, zm_eL_u, zm_eL_u0, nI_clamp, nI_1, nI_add, zs_m2, zs_m4, zs_m5, zs_m8, zs_d2, zs_s1, zs_in, zs_leT, zs_leF, zs_ltT, zs_ltF, zs_eqT, zs_eqF, zs_m1e, zs_oe, zs_0lt, zs_e0T, zs_e0F, zs_2n, true_implies, forall_const, not_true_eq_false, not_false_eq_true, false_implies, and_true, true_and, implies_true, zs_l1T, zs_l1F, zs_l2T, zs_l2F, zs_l4T, zs_l4F, zs_l8T, zs_l8F, zs_l16T, zs_l16F, zs_l32T, zs_l32F, zs_l64T, zs_l64F, zs_l320T, zs_l320F, zs_l513T, zs_l513F, zs_l2561T, zs_l2561F, zs_t4T, zs_t4F, zs_e1T, zs_e1F, zs_nl0T, zs_nl0F, zs_nb, pk_rem, lN_1, zs_lleT, zs_lleF, zs_le0T, zs_le0F]
      exact ⟨9, zx_sb33 (il := l) (fun u' hu' => K u' l hu' hl) 9 0 u (by omega) (by omega) (fun j hj => by rw [if_neg (by omega)]; exact hu j hj)⟩
theorem zx_startBounds {post : SX → Prop} (h8 : nd ≤ 8 ∧ bk ≤ 8) (K : ∀ u l : Nat → Nat, zp_X nd bk se wy ln rx eg u l → post (nI nd, nI bk, nI se, nI wy, nI st, nI wn, nI wp, hit, mis, zm_em rx, zm_em ln, zm_eo eg, zm_em so, zm_em rc, zm_em u, zm_em l, zm_em cu, zm_em cl, zm_em li, zm_em fi)) : wpX_startBounds post (nI nd, nI bk, nI se, nI wy, nI st, nI wn, nI wp, hit, mis, zm_em rx, zm_em ln, zm_eo eg, zm_em so, zm_em rc, zm_em iu, zm_em il, zm_em cu, zm_em cl, zm_em li, zm_em fi) := by
  refine ⟨65, zx_sb2 (fun u l hu hl => K u l ⟨fun j hj => ⟨?_, ?_⟩, fun b hb => ?_, fun Q hQ n hn b hb => ?_, fun Q hQ n hn b hb => ?_⟩) 65 0 iu il (by omega) (by omega) (fun s hs => absurd hs (by omega)) (fun s hs => absurd hs (by omega))⟩
  · rw [hu j hj]; split <;> omega
  · rw [hl j hj]; exact Nat.le_refl _
  · rw [hu b (by omega), if_pos (by omega)]; exact Nat.le_refl _
  · rw [hu _ (by omega)]
    by_cases e : n = 0
    · rw [if_pos (by omega), e, show 0 * 8 + b = b from by omega]; exact hQ.1 b hb
    · rw [if_neg (by omega)]; exact Nat.zero_le _
  · rw [hl _ (by omega)]; exact hQ.1 n hn b hb
end
end
section
/-! the component: applyRef, loadState -/
theorem zp_eU_ne {se c b : Nat} {f : Nat → Nat} (h : b ≠ c) (h2 : b % se ≠ c % se) : zp_eU se c f b = f b := by
  unfold zp_eU; rw [if_neg h, if_neg h2]
theorem zp_eU_lt {se c b : Nat} {f : Nat → Nat} (h : b ≠ c) (h2 : b % se = c % se) (h3 : f b < f c) : zp_eU se c f b = f b + 1 := by
  unfold zp_eU; rw [if_neg h, if_pos h2, if_pos h3]
theorem zp_eU_ge {se c b : Nat} {f : Nat → Nat} (h : b ≠ c) (h2 : b % se = c % se) (h3 : f c ≤ f b) : zp_eU se c f b = f b := by
  unfold zp_eU; rw [if_neg h, if_pos h2, if_neg (by omega)]
theorem zp_eU_c {se c : Nat} {f : Nat → Nat} : zp_eU se c f c = 0 := by
  unfold zp_eU; rw [if_pos rfl]
theorem zp_eL_ne {se wy c b : Nat} {f : Nat → Nat} (h : b ≠ c) (h2 : b % se ≠ c % se) : zp_eL se wy c f b = f b := by
  unfold zp_eL; rw [if_neg h, if_neg h2]
theorem zp_eL_lt {se wy c b : Nat} {f : Nat → Nat} (h : b ≠ c) (h2 : b % se = c % se) (h3 : f b ≤ f c) (h4 : f b < wy) : zp_eL se wy c f b = f b + 1 := by
  unfold zp_eL; rw [if_neg h, if_pos h2, if_pos ⟨h3, h4⟩]
theorem zp_eL_ge {se wy c b : Nat} {f : Nat → Nat} (h : b ≠ c) (h2 : b % se = c % se) (h3 : ¬ (f b ≤ f c ∧ f b < wy)) : zp_eL se wy c f b = f b := by
  unfold zp_eL; rw [if_neg h, if_pos h2, if_neg h3]
theorem zp_eL_c {se wy c : Nat} {f : Nat → Nat} : zp_eL se wy c f c = 0 := by
  unfold zp_eL; rw [if_pos rfl]
/-- the scratch while the effect e of block c is laid over u up to block b -/
def zx_p (bk c : Nat) (e u f : Nat → Nat) (b : Nat) : Prop := ∀ j, j < bk → f j = if j < b ∧ j ≠ c then e j else u j
theorem zx_p_k {bk c b : Nat} {e u f : Nat → Nat} (h : zx_p bk c e u f b) (hb : b = c ∨ e b = u b) : zx_p bk c e u f (b + 1) := by
  intro j hj
  rw [h j hj]
  by_cases q : j < b ∧ j ≠ c
  · rw [if_pos q, if_pos ⟨by omega, q.2⟩]
  · rw [if_neg q]
    by_cases q2 : j < b + 1 ∧ j ≠ c
    · have z : j = b := by omega
      rw [if_pos q2, z]
      rcases hb with hb | hb
      · exact absurd (z.trans hb) q2.2
      · exact hb.symm
    · rw [if_neg q2]
theorem zx_p_u {bk c b x : Nat} {e u f : Nat → Nat} (h : zx_p bk c e u f b) (hb : b ≠ c) (hx : x = e b) : zx_p bk c e u (zm_up f b x) (b + 1) := by
  intro j hj
  rcases Nat.decEq j b with z | z
  · rw [zm_upn z, h j hj]
    by_cases q : j < b ∧ j ≠ c
    · rw [if_pos q, if_pos ⟨by omega, q.2⟩]
    · rw [if_neg q, if_neg (by omega)]
  · rw [z, zm_ups, if_pos ⟨by omega, hb⟩, hx]
theorem zx_p_e {bk c : Nat} {e u f : Nat → Nat} (h : zx_p bk c e u f bk) (h0 : e c = 0) : ∀ j, j < bk → zm_up f c 0 j = e j := by
  intro j hj
  rcases Nat.decEq j c with z | z
  · rw [zm_upn z, h j hj, if_pos ⟨hj, z⟩]
  · rw [z, zm_ups, h0]
theorem zx_p_b {bk c b : Nat} {e u f : Nat → Nat} (h : zx_p bk c e u f b) (hb : b < bk) : f b = u b := by
  rw [h b hb, if_neg (by omega)]
section
variable {nd bk se wy st wn wp : Nat} {hit mis : Int32} {rx ln so rc iu il cu cl li fi : Nat → Nat} {eg : Nat → Option Nat}
theorem zx_ar {post : SX → Prop} {c : Nat} {u l : Nat → Nat} (h8 : bk ≤ 8) (hw : wy ≤ 4) (hse : 1 ≤ se ∧ se ≤ 4) (hso : ∀ b, b < 8 → so b = b % se) (hc : c < bk) (hu : ∀ b, b < bk → u b ≤ wy) (hl : ∀ b, b < bk → l b ≤ wy)
    (K : ∀ u' l' : Nat → Nat, (∀ b, b < bk → u' b = zp_eU se c u b) → (∀ b, b < bk → l' b = zp_eL se wy c l b) → post (nI nd, nI bk, nI se, nI wy, nI st, nI wn, nI wp, hit, mis, zm_em rx, zm_em ln, zm_eo eg, zm_em so, zm_em rc, zm_em iu, zm_em il, zm_em u', zm_em l', zm_em li, zm_em fi)) : ∀ f b (cu cl : Nat → Nat), b ≤ bk → bk - b < f → zx_p bk c (zp_eU se c u) u cu b → zx_p bk c (zp_eL se wy c l) l cl b →
      wX_applyRef_17 post (nI c) (nI (u c)) (nI (l c)) (nI nd) (nI bk) (nI se) (nI wy) (nI st) (nI wn) (nI wp) hit mis f (nI b) (zm_em rx) (zm_em ln) (zm_eo eg) (zm_em so) (zm_em rc) (zm_em iu) (zm_em il) (zm_em cu) (zm_em cl) (zm_em li) (zm_em fi) := by
  intro f
  induction f with
  | zero => intro b _ _ _ h; omega
  | succ f ih =>
    intro b cu cl hb hf hU hL
    rcases Nat.lt_or_ge b bk with h | h
    · have eu := zx_p_b hU h
      have el := zx_p_b hL h
      have bu := hu b h
      have bl := hl b h
      have buc := hu c hc
      have blc := hl c hc
      by_cases ebc : b = c
      · simp (disch := omega) only [wX_applyRef_17, forall_eq, zm_em_a, zm_eo_a, zm_eL_a, zm_oi_s, zm_oi_n, zm_em_u, zm_em_u0, zm_em_b0, zm_em_b1, zm_eo_u, zm_eo_un, zm_eL_u, zm_eL_u0, nI_clamp, nI_1, nI_add, zs_m2, zs_m4, zs_m5, zs_m8, zs_d2, zs_s1, zs_in, zs_leT, zs_leF, zs_ltT, zs_ltF, zs_eqT, zs_eqF, zs_m1e, zs_oe, zs_0lt, zs_e0T, zs_e0F, zs_2n, true_implies, forall_const, not_true_eq_false, not_false_eq_true, false_implies, and_true, true_and, implies_true, zs_l1T, zs_l1F, zs_l2T, zs_l2F, zs_l4T, zs_l4F, zs_l8T, zs_l8F, zs_l16T, zs_l16F, zs_l32T, zs_l32F, zs_l64T, zs_l64F, zs_l320T, zs_l320F, zs_l513T, zs_l513F, zs_l2561T, zs_l2561F, zs_t4T, zs_t4F, zs_e1T, zs_e1F, zs_nl0T, zs_nl0F, zs_nb, pk_rem, lN_1, zs_lleT, zs_lleF, zs_le0T, zs_le0F]
        exact ih (b + 1) cu cl (by omega) (by omega) (zx_p_k hU (Or.inl ebc)) (zx_p_k hL (Or.inl ebc))
      · have s1 := hso b (by omega)
        have s2 := hso c (by omega)
        have t1 := Nat.mod_lt b (show 0 < se by omega)
        have t2 := Nat.mod_lt c (show 0 < se by omega)
        by_cases es : b % se = c % se
        · rcases Nat.lt_or_ge (u b) (u c) with a1 | a1
          · by_cases a2 : l b ≤ l c ∧ l b < wy
            · simp (disch := omega) only [wX_applyRef_17, wX_applyRef_70, forall_eq, zm_em_a, zm_eo_a, zm_eL_a, zm_oi_s, zm_oi_n, zm_em_u, zm_em_u0, zm_em_b0, zm_em_b1, zm_eo_u, zm_eo_un, zm_eL_u, zm_eL_u0, nI_clamp, nI_1, nI_add, zs_m2, zs_m4, zs_m5, zs_m8, zs_d2, zs_s1, zs_in, zs_leT, zs_leF, zs_ltT, zs_ltF, zs_eqT, zs_eqF, zs_m1e, zs_oe, zs_0lt, zs_e0T, zs_e0F, zs_2n, true_implies, forall_const, not_true_eq_false, not_false_eq_true, false_implies, and_true, true_and, implies_true, zs_l1T, zs_l1F, zs_l2T, zs_l2F, zs_l4T, zs_l4F, zs_l8T, zs_l8F, zs_l16T, zs_l16F, zs_l32T, zs_l32F, zs_l64T, zs_l64F, zs_l320T, zs_l320F, zs_l513T, zs_l513F, zs_l2561T, zs_l2561F, zs_t4T, zs_t4F, zs_e1T, zs_e1F, zs_nl0T, zs_nl0F, zs_nb, pk_rem, lN_1, zs_lleT, zs_lleF, zs_le0T, zs_le0F]
              exact ih (b + 1) _ _ (by omega) (by omega) (zx_p_u hU ebc (by rw [eu, zp_eU_lt ebc es a1])) (zx_p_u hL ebc (by rw [el, zp_eL_lt ebc es a2.1 a2.2]))
            · rcases Nat.lt_or_ge (l c) (l b) with a3 | a3
              · simp (disch := omega) only [wX_applyRef_17, wX_applyRef_70, forall_eq, zm_em_a, zm_eo_a, zm_eL_a, zm_oi_s, zm_oi_n, zm_em_u, zm_em_u0, zm_em_b0, zm_em_b1, zm_eo_u, zm_eo_un, zm_eL_u, zm_eL_u0, nI_clamp, nI_1, nI_add, zs_m2, zs_m4, zs_m5, zs_m8, zs_d2, zs_s1, zs_in, zs_leT, zs_leF, zs_ltT, zs_ltF, zs_eqT, zs_eqF, zs_m1e, zs_oe, zs_0lt, zs_e0T, zs_e0F, zs_2n, true_implies, forall_const, not_true_eq_false, not_false_eq_true, false_implies, and_true, true_and, implies_true, zs_l1T, zs_l1F, zs_l2T, zs_l2F, zs_l4T, zs_l4F, zs_l8T, zs_l8F, zs_l16T, zs_l16F, zs_l32T, zs_l32F, zs_l64T, zs_l64F, zs_l320T, zs_l320F, zs_l513T, zs_l513F, zs_l2561T, zs_l2561F, zs_t4T, zs_t4F, zs_e1T, zs_e1F, zs_nl0T, zs_nl0F, zs_nb, pk_rem, lN_1, zs_lleT, zs_lleF, zs_le0T, zs_le0F]
                exact ih (b + 1) _ _ (by omega) (by omega) (zx_p_u hU ebc (by rw [eu, zp_eU_lt ebc es a1])) (zx_p_k hL (Or.inr (zp_eL_ge ebc es a2)))
              · have a4 : wy ≤ l b := by omega
                simp (disch := omega) only [wX_applyRef_17, wX_applyRef_70, forall_eq, zm_em_a, zm_eo_a, zm_eL_a, zm_oi_s, zm_oi_n, zm_em_u, zm_em_u0, zm_em_b0, zm_em_b1, zm_eo_u, zm_eo_un, zm_eL_u, zm_eL_u0, nI_clamp, nI_1, nI_add, zs_m2, zs_m4, zs_m5, zs_m8, zs_d2, zs_s1, zs_in, zs_leT, zs_leF, zs_ltT, zs_ltF, zs_eqT, zs_eqF, zs_m1e, zs_oe, zs_0lt, zs_e0T, zs_e0F, zs_2n, true_implies, forall_const, not_true_eq_false, not_false_eq_true, false_implies, and_true, true_and, implies_true, zs_l1T, zs_l1F, zs_l2T, zs_l2F, zs_l4T, zs_l4F, zs_l8T, zs_l8F, zs_l16T, zs_l16F, zs_l32T, zs_l32F, zs_l64T, zs_l64F, zs_l320T, zs_l320F, zs_l513T, zs_l513F, zs_l2561T, zs_l2561F, zs_t4T, zs_t4F, zs_e1T, zs_e1F, zs_nl0T, zs_nl0F, zs_nb, pk_rem, lN_1, zs_lleT, zs_lleF, zs_le0T, zs_le0F]
                exact ih (b + 1) _ _ (by omega) (by omega) (zx_p_u hU ebc (by rw [eu, zp_eU_lt ebc es a1])) (zx_p_k hL (Or.inr (zp_eL_ge ebc es a2)))
          · by_cases a2 : l b ≤ l c ∧ l b < wy
            · simp (disch := omega) only [wX_applyRef_17, wX_applyRef_70, forall_eq, zm_em_a, zm_eo_a, zm_eL_a, zm_oi_s, zm_oi_n, zm_em_u, zm_em_u0, zm_em_b0, zm_em_b1, zm_eo_u, zm_eo_un, zm_eL_u, zm_eL_u0, nI_clamp, nI_1, nI_add, zs_m2, zs_m4, zs_m5, zs_m8, zs_d2, zs_s1, zs_in, zs_leT, zs_leF, zs_ltT, zs_ltF, zs_eqT, zs_eqF, zs_m1e, zs_oe, zs_0lt, zs_e0T, zs_e0F, zs_2n, true_implies, forall_const, not_true_eq_false, not_false_eq_true, false_implies, and_true, true_and, implies_true, zs_l1T, zs_l1F, zs_l2T, zs_l2F, zs_l4T, zs_l4F, zs_l8T, zs_l8F, zs_l16T, zs_l16F, zs_l32T, zs_l32F, zs_l64T, zs_l64F, zs_l320T, zs_l320F, zs_l513T, zs_l513F, zs_l2561T, zs_l2561F, zs_t4T, zs_t4F, zs_e1T, zs_e1F, zs_nl0T, zs_nl0F, zs_nb, pk_rem, lN_1, zs_lleT, zs_lleF, zs_le0T, zs_le0F]
              exact ih (b + 1) _ _ (by omega) (by omega) (zx_p_k hU (Or.inr (zp_eU_ge ebc es a1))) (zx_p_u hL ebc (by rw [el, zp_eL_lt ebc es a2.1 a2.2]))
            · rcases Nat.lt_or_ge (l c) (l b) with a3 | a3
              · simp (disch := omega) only [wX_applyRef_17, wX_applyRef_70, forall_eq, zm_em_a, zm_eo_a, zm_eL_a, zm_oi_s, zm_oi_n, zm_em_u, zm_em_u0, zm_em_b0, zm_em_b1, zm_eo_u, zm_eo_un, zm_eL_u, zm_eL_u0, nI_clamp, nI_1, nI_add, zs_m2, zs_m4, zs_m5, zs_m8, zs_d2, zs_s1, zs_in, zs_leT, zs_leF, zs_ltT, zs_ltF, zs_eqT, zs_eqF, zs_m1e, zs_oe, zs_0lt, zs_e0T, zs_e0F, zs_2n, true_implies, forall_const, not_true_eq_false, not_false_eq_true, false_implies, and_true, true_and, implies_true, zs_l1T, zs_l1F, zs_l2T, zs_l2F, zs_l4T, zs_l4F, zs_l8T, zs_l8F, zs_l16T, zs_l16F, zs_l32T, zs_l32F, zs_l64T, zs_l64F, zs_l320T, zs_l320F, zs_l513T, zs_l513F, zs_l2561T, zs_l2561F, zs_t4T, zs_t4F, zs_e1T, zs_e1F, zs_nl0T, zs_nl0F, zs_nb, pk_rem, lN_1, zs_lleT, zs_lleF, zs_le0T, zs_le0F]
                exact ih (b + 1) _ _ (by omega) (by omega) (zx_p_k hU (Or.inr (zp_eU_ge ebc es a1))) (zx_p_k hL (Or.inr (zp_eL_ge ebc es a2)))
              · have a4 : wy ≤ l b := by omega
                simp (disch := omega) only [wX_applyRef_17, wX_applyRef_70, forall_eq, zm_em_a, zm_eo_a, zm_eL_a, zm_oi_s, zm_oi_n, zm_em_u, zm_em_u0, zm_em_b0, zm_em_b1, zm_eo_u, zm_eo_un, zm_eL_u, zm_eL_u0, nI_clamp, nI_1, nI_add, zs_m2, zs_m4, zs_m5, zs_m8, zs_d2, zs_s1, zs_in, zs_leT, zs_leF, zs_ltT, zs_ltF, zs_eqT, zs_eqF, zs_m1e, zs_oe, zs_0lt, zs_e0T, zs_e0F, zs_2n, true_implies, forall_const, not_true_eq_false, not_false_eq_true, false_implies, and_true, true_and, implies_true, zs_l1T, zs_l1F, zs_l2T, zs_l2F, zs_l4T, zs_l4F, zs_l8T, zs_l8F, zs_l16T, zs_l16F, zs_l32T, zs_l32F, zs_l64T, zs_l64F, zs_l320T, zs_l320F, zs_l513T, zs_l513F, zs_l2561T, zs_l2561F, zs_t4T, zs_t4F, zs_e1T, zs_e1F, zs_nl0T, zs_nl0F, zs_nb, pk_rem, lN_1, zs_lleT, zs_lleF, zs_le0T, zs_le0F]
                exact ih (b + 1) _ _ (by omega) (by omega) (zx_p_k hU (Or.inr (zp_eU_ge ebc es a1))) (zx_p_k hL (Or.inr (zp_eL_ge ebc es a2)))
        · simp (disch := omega) only [wX_applyRef_17, forall_eq, zm_em_a, zm_eo_a, zm_eL_a, zm_oi_s, zm_oi_n, zm_em_u, zm_em_u0, zm_em_b0, zm_em_b1, zm_eo_u, zm_eo_un, zm_eL_u, zm_eL_u0, nI_clamp, nI_1, nI_add, zs_m2, zs_m4, zs_m5, zs_m8, zs_d2, zs_s1, zs_in, zs_leT, zs_leF, zs_ltT, zs_ltF, zs_eqT, zs_eqF, zs_m1e, zs_oe, zs_0lt, zs_e0T, zs_e0F, zs_2n, true_implies, forall_const, not_true_eq_false, not_false_eq_true, false_implies, and_true, true_and, implies_true, zs_l1T, zs_l1F, zs_l2T, zs_l2F, zs_l4T, zs_l4F, zs_l8T, zs_l8F, zs_l16T, zs_l16F, zs_l32T, zs_l32F, zs_l64T, zs_l64F, zs_l320T, zs_l320F, zs_l513T, zs_l513F, zs_l2561T, zs_l2561F, zs_t4T, zs_t4F, zs_e1T, zs_e1F, zs_nl0T, zs_nl0F, zs_nb, pk_rem, lN_1, zs_lleT, zs_lleF, zs_le0T, zs_le0F]
          exact ih (b + 1) cu cl (by omega) (by omega) (zx_p_k hU (Or.inr (zp_eU_ne ebc es))) (zx_p_k hL (Or.inr (zp_eL_ne ebc es)))
    · have e : b = bk := by omega
      subst e
      simp (disch := omega) only [wX_applyRef_17, forall_eq, zm_em_a, zm_eo_a, zm_eL_a, zm_oi_s, zm_oi_n, zm_em_u, zm_em_u0, zm_em_b0, zm_em_b1, zm_eo_u, zm_eo_un, zm_eL_u, zm_eL_u0, nI_clamp, nI_1, nI_add, zs_m2, zs_m4, zs_m5, zs_m8, zs_d2, zs_s1, zs_in, zs_leT, zs_leF, zs_ltT, zs_ltF, zs_eqT, zs_eqF, zs_m1e, zs_oe, zs_0lt, zs_e0T, zs_e0F, zs_2n, true_implies, forall_const, not_true_eq_false, not_false_eq_true, false_implies, and_true, true_and, implies_true, zs_l1T, zs_l1F, zs_l2T, zs_l2F, zs_l4T, zs_l4F, zs_l8T, zs_l8F, zs_l16T, zs_l16F, zs_l32T, zs_l32F, zs_l64T, zs_l64F, zs_l320T, zs_l320F, zs_l513T, zs_l513F, zs_l2561T, zs_l2561F, zs_t4T, zs_t4F, zs_e1T, zs_e1F, zs_nl0T, zs_nl0F, zs_nb, pk_rem, lN_1, zs_lleT, zs_lleF, zs_le0T, zs_le0F]
      exact K _ _ (zx_p_e hU zp_eU_c) (zx_p_e hL zp_eL_c)
theorem zx_applyRef {post : SX → Prop} {c : Nat} (h8 : bk ≤ 8) (hw : wy ≤ 4) (hse : 1 ≤ se ∧ se ≤ 4) (hso : ∀ b, b < 8 → so b = b % se) (hc : c < bk) (hu : ∀ b, b < bk → cu b ≤ wy) (hl : ∀ b, b < bk → cl b ≤ wy)
    (K : ∀ u' l' : Nat → Nat, (∀ b, b < bk → u' b = zp_eU se c cu b) → (∀ b, b < bk → l' b = zp_eL se wy c cl b) → post (nI nd, nI bk, nI se, nI wy, nI st, nI wn, nI wp, hit, mis, zm_em rx, zm_em ln, zm_eo eg, zm_em so, zm_em rc, zm_em iu, zm_em il, zm_em u', zm_em l', zm_em li, zm_em fi)) : wpX_applyRef post (nI nd, nI bk, nI se, nI wy, nI st, nI wn, nI wp, hit, mis, zm_em rx, zm_em ln, zm_eo eg, zm_em so, zm_em rc, zm_em iu, zm_em il, zm_em cu, zm_em cl, zm_em li, zm_em fi) (nI c) := by
  simp (disch := omega) only [wpX_applyRef, forall_eq, zm_em_a, zm_eo_a, zm_eL_a, zm_oi_s, zm_oi_n, zm_em_u, zm_em_u0, zm_em_b0, zm_em_b1, zm_eo_u, zm_eo_un, zm_eL_u, zm_eL_u0, nI_clamp, nI_1, nI_add, zs_m2, zs_m4, zs_m5, zs_m8, zs_d2, zs_s1, zs_in, zs_leT, zs_leF, zs_ltT, zs_ltF, zs_eqT, zs_eqF, zs_m1e, zs_oe, zs_0lt, zs_e0T, zs_e0F, zs_2n, true_implies, forall_const, not_true_eq_false, not_false_eq_true, false_implies, and_true, true_and, implies_true, zs_l1T, zs_l1F, zs_l2T, zs_l2F, zs_l4T, zs_l4F, zs_l8T, zs_l8F, zs_l16T, zs_l16F, zs_l32T, zs_l32F, zs_l64T, zs_l64F, zs_l320T, zs_l320F, zs_l513T, zs_l513F, zs_l2561T, zs_l2561F, zs_t4T, zs_t4F, zs_e1T, zs_e1F, zs_nl0T, zs_nl0F, zs_nb, pk_rem, lN_1, zs_lleT, zs_lleF, zs_le0T, zs_le0F]
  exact ⟨9, zx_ar (u := cu) (l := cl) h8 hw hse hso hc hu hl K 9 0 cu cl (by omega) (by omega) (fun j _ => by rw [if_neg (by omega)]) (fun j _ => by rw [if_neg (by omega)])⟩
theorem zx_l58 {post : SX → Prop} {n q : Nat} {u l : Nat → Nat} (h8 : nd ≤ 8 ∧ bk ≤ 8) (hw : wy ≤ 4) (hse : 1 ≤ se ∧ se ≤ 4) (hso : ∀ b, b < 8 → so b = b % se) (hn : n < nd) (hq : q ≤ 4) (hr : ∀ p, p < q → rx (n * 4 + p) < bk)
    (hu : ∀ b, b < bk → u b ≤ wy) (hl : ∀ b, b < bk → l b ≤ wy)
    (K : ∀ u' l' : Nat → Nat, (∀ b, b < bk → u' b = zp_sU se rx n u q b) → (∀ b, b < bk → l' b = zp_sL se wy rx n l q b) → post (nI nd, nI bk, nI se, nI wy, nI st, nI wn, nI wp, hit, mis, zm_em rx, zm_em ln, zm_eo eg, zm_em so, zm_em rc, zm_em iu, zm_em il, zm_em u', zm_em l', zm_em li, zm_em fi)) : ∀ f p (cu cl : Nat → Nat), p ≤ q → q - p < f → (∀ b, b < bk → cu b = zp_sU se rx n u p b) → (∀ b, b < bk → cl b = zp_sL se wy rx n l p b) →
      wX_loadState_58 post (nI n) (nI q) f (nI p) (nI nd) (nI bk) (nI se) (nI wy) (nI st) (nI wn) (nI wp) hit mis (zm_em rx) (zm_em ln) (zm_eo eg) (zm_em so) (zm_em rc) (zm_em iu) (zm_em il) (zm_em cu) (zm_em cl) (zm_em li) (zm_em fi) := by
  intro f
  induction f with
  | zero => intro p _ _ _ h; omega
  | succ f ih =>
    intro p cu cl hp hf hU hL
    rcases Nat.lt_or_ge p q with h | h
    · have hc := hr p h
      simp (disch := omega) only [wX_loadState_58, forall_eq, zm_em_a, zm_eo_a, zm_eL_a, zm_oi_s, zm_oi_n, zm_em_u, zm_em_u0, zm_em_b0, zm_em_b1, zm_eo_u, zm_eo_un, zm_eL_u, zm_eL_u0, nI_clamp, nI_1, nI_add, zs_m2, zs_m4, zs_m5, zs_m8, zs_d2, zs_s1, zs_in, zs_leT, zs_leF, zs_ltT, zs_ltF, zs_eqT, zs_eqF, zs_m1e, zs_oe, zs_0lt, zs_e0T, zs_e0F, zs_2n, true_implies, forall_const, not_true_eq_false, not_false_eq_true, false_implies, and_true, true_and, implies_true, zs_l1T, zs_l1F, zs_l2T, zs_l2F, zs_l4T, zs_l4F, zs_l8T, zs_l8F, zs_l16T, zs_l16F, zs_l32T, zs_l32F, zs_l64T, zs_l64F, zs_l320T, zs_l320F, zs_l513T, zs_l513F, zs_l2561T, zs_l2561F, zs_t4T, zs_t4F, zs_e1T, zs_e1F, zs_nl0T, zs_nl0F, zs_nb, pk_rem, lN_1, zs_lleT, zs_lleF, zs_le0T, zs_le0F]
      refine zx_applyRef h8.2 hw hse hso hc (fun b hb => ?_) (fun b hb => ?_) (fun u' l' hu' hl' => ?_)
      · rw [hU b hb]; exact zp_sU_le hu p (fun r hr' => hr r (by omega)) b hb
      · rw [hL b hb]; exact zp_sL_le hl p b hb
      · exact ih (p + 1) u' l' (by omega) (by omega) (fun b hb => (hu' b hb).trans (zp_eU_cg hc hU b hb)) (fun b hb => (hl' b hb).trans (zp_eL_cg hc hL b hb))
    · have e : p = q := by omega
      subst e
      simp (disch := omega) only [wX_loadState_58, forall_eq, zm_em_a, zm_eo_a, zm_eL_a, zm_oi_s, zm_oi_n, zm_em_u, zm_em_u0, zm_em_b0, zm_em_b1, zm_eo_u, zm_eo_un, zm_eL_u, zm_eL_u0, nI_clamp, nI_1, nI_add, zs_m2, zs_m4, zs_m5, zs_m8, zs_d2, zs_s1, zs_in, zs_leT, zs_leF, zs_ltT, zs_ltF, zs_eqT, zs_eqF, zs_m1e, zs_oe, zs_0lt, zs_e0T, zs_e0F, zs_2n, true_implies, forall_const, not_true_eq_false, not_false_eq_true, false_implies, and_true, true_and, implies_true, zs_l1T, zs_l1F, zs_l2T, zs_l2F, zs_l4T, zs_l4F, zs_l8T, zs_l8F, zs_l16T, zs_l16F, zs_l32T, zs_l32F, zs_l64T, zs_l64F, zs_l320T, zs_l320F, zs_l513T, zs_l513F, zs_l2561T, zs_l2561F, zs_t4T, zs_t4F, zs_e1T, zs_e1F, zs_nl0T, zs_nl0F, zs_nb, pk_rem, lN_1, zs_lleT, zs_lleF, zs_le0T, zs_le0F]
      exact K cu cl hU hL
theorem zx_l8 {post : SX → Prop} {n q : Nat} (h8 : nd ≤ 8 ∧ bk ≤ 8) (hw : wy ≤ 4) (hse : 1 ≤ se ∧ se ≤ 4) (hso : ∀ b, b < 8 → so b = b % se) (hn : n < nd) (hq : q ≤ 4) (hr : ∀ p, p < q → rx (n * 4 + p) < bk)
    (hi : ∀ j, j < 64 → iu j ≤ wy ∧ il j ≤ wy)
    (K : ∀ u' l' : Nat → Nat, (∀ b, b < bk → u' b = zp_sU se rx n (zp_sl iu n) q b) → (∀ b, b < bk → l' b = zp_sL se wy rx n (zp_sl il n) q b) → post (nI nd, nI bk, nI se, nI wy, nI st, nI wn, nI wp, hit, mis, zm_em rx, zm_em ln, zm_eo eg, zm_em so, zm_em rc, zm_em iu, zm_em il, zm_em u', zm_em l', zm_em li, zm_em fi)) : ∀ f b (cu cl : Nat → Nat), b ≤ bk → bk - b < f → (∀ j, j < b → cu j = zp_sl iu n j) → (∀ j, j < b → cl j = zp_sl il n j) →
      wX_loadState_8 post (nI n) (nI q) (nI (n * 8)) (nI nd) (nI bk) (nI se) (nI wy) (nI st) (nI wn) (nI wp) hit mis f (nI b) (zm_em rx) (zm_em ln) (zm_eo eg) (zm_em so) (zm_em rc) (zm_em iu) (zm_em il) (zm_em cu) (zm_em cl) (zm_em li) (zm_em fi) := by
  intro f
  induction f with
  | zero => intro p _ _ _ h; omega
  | succ f ih =>
    intro b cu cl hb hf hU hL
    rcases Nat.lt_or_ge b bk with h | h
    · simp (disch := omega) only [wX_loadState_8, forall_eq, zm_em_a, zm_eo_a, zm_eL_a, zm_oi_s, zm_oi_n, zm_em_u, zm_em_u0, zm_em_b0, zm_em_b1, zm_eo_u, zm_eo_un, zm_eL_u, zm_eL_u0, nI_clamp, nI_1, nI_add, zs_m2, zs_m4, zs_m5, zs_m8, zs_d2, zs_s1, zs_in, zs_leT, zs_leF, zs_ltT, zs_ltF, zs_eqT, zs_eqF, zs_m1e, zs_oe, zs_0lt, zs_e0T, zs_e0F, zs_2n, true_implies, forall_const, not_true_eq_false, not_false_eq_true, false_implies, and_true, true_and, implies_true, zs_l1T, zs_l1F, zs_l2T, zs_l2F, zs_l4T, zs_l4F, zs_l8T, zs_l8F, zs_l16T, zs_l16F, zs_l32T, zs_l32F, zs_l64T, zs_l64F, zs_l320T, zs_l320F, zs_l513T, zs_l513F, zs_l2561T, zs_l2561F, zs_t4T, zs_t4F, zs_e1T, zs_e1F, zs_nl0T, zs_nl0F, zs_nb, pk_rem, lN_1, zs_lleT, zs_lleF, zs_le0T, zs_le0F]
      exact ih (b + 1) _ _ (by omega) (by omega) (zm_upP (P := fun j x => x = zp_sl iu n j) hU rfl) (zm_upP (P := fun j x => x = zp_sl il n j) hL rfl)
    · have e : b = bk := by omega
      subst e
      simp (disch := omega) only [wX_loadState_8, forall_eq, zm_em_a, zm_eo_a, zm_eL_a, zm_oi_s, zm_oi_n, zm_em_u, zm_em_u0, zm_em_b0, zm_em_b1, zm_eo_u, zm_eo_un, zm_eL_u, zm_eL_u0, nI_clamp, nI_1, nI_add, zs_m2, zs_m4, zs_m5, zs_m8, zs_d2, zs_s1, zs_in, zs_leT, zs_leF, zs_ltT, zs_ltF, zs_eqT, zs_eqF, zs_m1e, zs_oe, zs_0lt, zs_e0T, zs_e0F, zs_2n, true_implies, forall_const, not_true_eq_false, not_false_eq_true, false_implies, and_true, true_and, implies_true, zs_l1T, zs_l1F, zs_l2T, zs_l2F, zs_l4T, zs_l4F, zs_l8T, zs_l8F, zs_l16T, zs_l16F, zs_l32T, zs_l32F, zs_l64T, zs_l64F, zs_l320T, zs_l320F, zs_l513T, zs_l513F, zs_l2561T, zs_l2561F, zs_t4T, zs_t4F, zs_e1T, zs_e1F, zs_nl0T, zs_nl0F, zs_nb, pk_rem, lN_1, zs_lleT, zs_lleF, zs_le0T, zs_le0F]
      exact ⟨5, zx_l58 (u := zp_sl iu n) (l := zp_sl il n) h8 hw hse hso hn hq hr (fun b hb => (hi (n * 8 + b) (by omega)).1) (fun b hb => (hi (n * 8 + b) (by omega)).2) K 5 0 cu cl (by omega) (by omega) hU hL⟩
theorem zx_load {post : SX → Prop} {n q : Nat} (h8 : nd ≤ 8 ∧ bk ≤ 8) (hw : wy ≤ 4) (hse : 1 ≤ se ∧ se ≤ 4) (hso : ∀ b, b < 8 → so b = b % se) (hn : n < nd) (hq : q ≤ 4) (hr : ∀ p, p < q → rx (n * 4 + p) < bk)
    (hi : ∀ j, j < 64 → iu j ≤ wy ∧ il j ≤ wy)
    (K : ∀ u' l' : Nat → Nat, (∀ b, b < bk → u' b = zp_sU se rx n (zp_sl iu n) q b) → (∀ b, b < bk → l' b = zp_sL se wy rx n (zp_sl il n) q b) → post (nI nd, nI bk, nI se, nI wy, nI st, nI wn, nI wp, hit, mis, zm_em rx, zm_em ln, zm_eo eg, zm_em so, zm_em rc, zm_em iu, zm_em il, zm_em u', zm_em l', zm_em li, zm_em fi)) : wpX_loadState post (nI nd, nI bk, nI se, nI wy, nI st, nI wn, nI wp, hit, mis, zm_em rx, zm_em ln, zm_eo eg, zm_em so, zm_em rc, zm_em iu, zm_em il, zm_em cu, zm_em cl, zm_em li, zm_em fi) (nI n) (nI q) := by
  simp (disch := omega) only [wpX_loadState, forall_eq, zm_em_a, zm_eo_a, zm_eL_a, zm_oi_s, zm_oi_n, zm_em_u, zm_em_u0, zm_em_b0, zm_em_b1, zm_eo_u, zm_eo_un, zm_eL_u, zm_eL_u0, nI_clamp, nI_1, nI_add, zs_m2, zs_m4, zs_m5, zs_m8, zs_d2, zs_s1, zs_in, zs_leT, zs_leF, zs_ltT, zs_ltF, zs_eqT, zs_eqF, zs_m1e, zs_oe, zs_0lt, zs_e0T, zs_e0F, zs_2n, true_implies, forall_const, not_true_eq_false, not_false_eq_true, false_implies, and_true, true_and, implies_true, zs_l1T, zs_l1F, zs_l2T, zs_l2F, zs_l4T, zs_l4F, zs_l8T, zs_l8F, zs_l16T, zs_l16F, zs_l32T, zs_l32F, zs_l64T, zs_l64F, zs_l320T, zs_l320F, zs_l513T, zs_l513F, zs_l2561T, zs_l2561F, zs_t4T, zs_t4F, zs_e1T, zs_e1F, zs_nl0T, zs_nl0F, zs_nb, pk_rem, lN_1, zs_lleT, zs_lleF, zs_le0T, zs_le0F]
  exact ⟨9, zx_l8 h8 hw hse hso hn hq hr hi K 9 0 cu cl (by omega) (by omega) (fun j hj => absurd hj (by omega)) (fun j hj => absurd hj (by omega))⟩
end
end
section
/-! the component: joinInto, propagate, solve, refresh -/
/-- what a sweep keeps: sound bounds; nothing has moved and P holds, or the sum has grown -/
def zq_I (nd bk se wy : Nat) (ln rx : Nat → Nat) (eg : Nat → Option Nat) (P : (Nat → Nat) → (Nat → Nat) → Prop) (m x : Nat) (iu il : Nat → Nat) : Prop :=
  zp_X nd bk se wy ln rx eg iu il ∧ m ≤ zm_mu 64 wy iu il ∧ ((x = 0 ∧ P iu il) ∨ (x = 1 ∧ m + 1 ≤ zm_mu 64 wy iu il))
section
variable {nd bk se wy : Nat} {ln rx : Nat → Nat} {eg : Nat → Option Nat} {P P' : (Nat → Nat) → (Nat → Nat) → Prop} {m x : Nat} {iu il iu' il' : Nat → Nat}
theorem zq_le (h : zq_I nd bk se wy ln rx eg P m x iu il) : x ≤ 1 := by
  rcases h.2.2 with h | h <;> omega
theorem zq_k (h : zq_I nd bk se wy ln rx eg P m x iu il) (hp : P iu il → P' iu il) : zq_I nd bk se wy ln rx eg P' m x iu il :=
  ⟨h.1, h.2.1, h.2.2.elim (fun a => Or.inl ⟨a.1, hp a.2⟩) Or.inr⟩
theorem zq_s (h : zq_I nd bk se wy ln rx eg P m x iu il) (hX : zp_X nd bk se wy ln rx eg iu' il') (hl : zm_mu 64 wy iu il < zm_mu 64 wy iu' il') : zq_I nd bk se wy ln rx eg P' m 1 iu' il' :=
  ⟨hX, by have := h.2.1; omega, Or.inr ⟨rfl, by have := h.2.1; omega⟩⟩
end
section
variable {nd bk se wy st wn wp : Nat} {hit mis : Int32} {rx ln so rc iu il cu cl li fi : Nat → Nat} {eg : Nat → Option Nat}
theorem zx_j10 {post : Int32 → SX → Prop} {t m : Nat} {H : (Nat → Nat) → (Nat → Nat) → Prop} (h8 : nd ≤ 8 ∧ bk ≤ 8) (hw : wy ≤ 4) (ht : t < nd) (J : zp_J nd bk se wy ln rx eg cu cl t)
    (K : ∀ x (u l : Nat → Nat), zq_I nd bk se wy ln rx eg (fun u l => H u l ∧ ∀ b, b < bk → cu b ≤ u (t * 8 + b) ∧ l (t * 8 + b) ≤ cl b) m x u l → post (nI x) (nI nd, nI bk, nI se, nI wy, nI st, nI wn, nI wp, hit, mis, zm_em rx, zm_em ln, zm_eo eg, zm_em so, zm_em rc, zm_em u, zm_em l, zm_em cu, zm_em cl, zm_em li, zm_em fi)) : ∀ f b x (iu il : Nat → Nat), b ≤ bk → bk - b < f →
      zq_I nd bk se wy ln rx eg (fun u l => H u l ∧ ∀ c, c < b → cu c ≤ u (t * 8 + c) ∧ l (t * 8 + c) ≤ cl c) m x iu il →
      wX_joinInto_10 post (nI (t * 8)) (nI nd) (nI bk) (nI se) (nI wy) (nI st) (nI wn) (nI wp) hit mis f (nI x) (nI b) (zm_em rx) (zm_em ln) (zm_eo eg) (zm_em so) (zm_em rc) (zm_em iu) (zm_em il) (zm_em cu) (zm_em cl) (zm_em li) (zm_em fi) := by
  intro f
  induction f with
  | zero => intro b _ _ _ _ h; omega
  | succ f ih =>
    intro b x iu il hb hf I
    rcases Nat.lt_or_ge b bk with h | h
    · have bi := I.1.1 (t * 8 + b) (by omega)
      have bc := J.1 b h
      rcases Nat.lt_or_ge (iu (t * 8 + b)) (cu b) with a1 | a1
      · have X1 := zp_X_u h8 ht h J I.1 a1
        have m1 : zm_mu 64 wy iu il < zm_mu 64 wy (zm_up iu (t * 8 + b) (cu b)) il := zm_mu_u (by omega) a1
        rcases Nat.lt_or_ge (cl b) (il (t * 8 + b)) with a2 | a2
        · have X2 := zp_X_l h8 ht h J X1
          have m2 : zm_mu 64 wy (zm_up iu (t * 8 + b) (cu b)) il < zm_mu 64 wy (zm_up iu (t * 8 + b) (cu b)) (zm_up il (t * 8 + b) (cl b)) := zm_mu_l (by omega) bi.2 a2
          simp (disch := omega) only [wX_joinInto_10, wX_joinInto_56, forall_eq, zm_em_a, zm_eo_a, zm_eL_a, zm_oi_s, zm_oi_n, zm_em_u, zm_em_u0, zm_em_b0, zm_em_b1, zm_eo_u, zm_eo_un, zm_eL_u, zm_eL_u0, nI_clamp, nI_1, nI_add, zs_m2, zs_m4, zs_m5, zs_m8, zs_d2, zs_s1, zs_in, zs_leT, zs_leF, zs_ltT, zs_ltF, zs_eqT, zs_eqF, zs_m1e, zs_oe, zs_0lt, zs_e0T, zs_e0F, zs_2n, true_implies, forall_const, not_true_eq_false, not_false_eq_true, false_implies, and_true, true_and, implies_true, zs_l1T, zs_l1F, zs_l2T, zs_l2F, zs_l4T, zs_l4F, zs_l8T, zs_l8F, zs_l16T, zs_l16F, zs_l32T, zs_l32F, zs_l64T, zs_l64F, zs_l320T, zs_l320F, zs_l513T, zs_l513F, zs_l2561T, zs_l2561F, zs_t4T, zs_t4F, zs_e1T, zs_e1F, zs_nl0T, zs_nl0F, zs_nb, pk_rem, lN_1, zs_lleT, zs_lleF, zs_le0T, zs_le0F]
          exact ih (b + 1) 1 _ _ (by omega) (by omega) (zq_s I X2 (by omega))
        · simp (disch := omega) only [wX_joinInto_10, wX_joinInto_56, forall_eq, zm_em_a, zm_eo_a, zm_eL_a, zm_oi_s, zm_oi_n, zm_em_u, zm_em_u0, zm_em_b0, zm_em_b1, zm_eo_u, zm_eo_un, zm_eL_u, zm_eL_u0, nI_clamp, nI_1, nI_add, zs_m2, zs_m4, zs_m5, zs_m8, zs_d2, zs_s1, zs_in, zs_leT, zs_leF, zs_ltT, zs_ltF, zs_eqT, zs_eqF, zs_m1e, zs_oe, zs_0lt, zs_e0T, zs_e0F, zs_2n, true_implies, forall_const, not_true_eq_false, not_false_eq_true, false_implies, and_true, true_and, implies_true, zs_l1T, zs_l1F, zs_l2T, zs_l2F, zs_l4T, zs_l4F, zs_l8T, zs_l8F, zs_l16T, zs_l16F, zs_l32T, zs_l32F, zs_l64T, zs_l64F, zs_l320T, zs_l320F, zs_l513T, zs_l513F, zs_l2561T, zs_l2561F, zs_t4T, zs_t4F, zs_e1T, zs_e1F, zs_nl0T, zs_nl0F, zs_nb, pk_rem, lN_1, zs_lleT, zs_lleF, zs_le0T, zs_le0F]
          exact ih (b + 1) 1 _ _ (by omega) (by omega) (zq_s I X1 m1)
      · rcases Nat.lt_or_ge (cl b) (il (t * 8 + b)) with a2 | a2
        · have X2 := zp_X_l h8 ht h J I.1
          have m2 : zm_mu 64 wy iu il < zm_mu 64 wy iu (zm_up il (t * 8 + b) (cl b)) := zm_mu_l (by omega) bi.2 a2
          simp (disch := omega) only [wX_joinInto_10, wX_joinInto_56, forall_eq, zm_em_a, zm_eo_a, zm_eL_a, zm_oi_s, zm_oi_n, zm_em_u, zm_em_u0, zm_em_b0, zm_em_b1, zm_eo_u, zm_eo_un, zm_eL_u, zm_eL_u0, nI_clamp, nI_1, nI_add, zs_m2, zs_m4, zs_m5, zs_m8, zs_d2, zs_s1, zs_in, zs_leT, zs_leF, zs_ltT, zs_ltF, zs_eqT, zs_eqF, zs_m1e, zs_oe, zs_0lt, zs_e0T, zs_e0F, zs_2n, true_implies, forall_const, not_true_eq_false, not_false_eq_true, false_implies, and_true, true_and, implies_true, zs_l1T, zs_l1F, zs_l2T, zs_l2F, zs_l4T, zs_l4F, zs_l8T, zs_l8F, zs_l16T, zs_l16F, zs_l32T, zs_l32F, zs_l64T, zs_l64F, zs_l320T, zs_l320F, zs_l513T, zs_l513F, zs_l2561T, zs_l2561F, zs_t4T, zs_t4F, zs_e1T, zs_e1F, zs_nl0T, zs_nl0F, zs_nb, pk_rem, lN_1, zs_lleT, zs_lleF, zs_le0T, zs_le0F]
          exact ih (b + 1) 1 _ _ (by omega) (by omega) (zq_s I X2 m2)
        · simp (disch := omega) only [wX_joinInto_10, wX_joinInto_56, forall_eq, zm_em_a, zm_eo_a, zm_eL_a, zm_oi_s, zm_oi_n, zm_em_u, zm_em_u0, zm_em_b0, zm_em_b1, zm_eo_u, zm_eo_un, zm_eL_u, zm_eL_u0, nI_clamp, nI_1, nI_add, zs_m2, zs_m4, zs_m5, zs_m8, zs_d2, zs_s1, zs_in, zs_leT, zs_leF, zs_ltT, zs_ltF, zs_eqT, zs_eqF, zs_m1e, zs_oe, zs_0lt, zs_e0T, zs_e0F, zs_2n, true_implies, forall_const, not_true_eq_false, not_false_eq_true, false_implies, and_true, true_and, implies_true, zs_l1T, zs_l1F, zs_l2T, zs_l2F, zs_l4T, zs_l4F, zs_l8T, zs_l8F, zs_l16T, zs_l16F, zs_l32T, zs_l32F, zs_l64T, zs_l64F, zs_l320T, zs_l320F, zs_l513T, zs_l513F, zs_l2561T, zs_l2561F, zs_t4T, zs_t4F, zs_e1T, zs_e1F, zs_nl0T, zs_nl0F, zs_nb, pk_rem, lN_1, zs_lleT, zs_lleF, zs_le0T, zs_le0F]
          refine ih (b + 1) x _ _ (by omega) (by omega) (zq_k I (fun hp => ⟨hp.1, fun c hc => ?_⟩))
          rcases Nat.lt_or_ge c b with z | z
          · exact hp.2 c z
          · have e : c = b := by omega
            rw [e]; exact ⟨a1, a2⟩
    · have e : b = bk := by omega
      subst e
      have hx := zq_le I
      simp (disch := omega) only [wX_joinInto_10, forall_eq, zm_em_a, zm_eo_a, zm_eL_a, zm_oi_s, zm_oi_n, zm_em_u, zm_em_u0, zm_em_b0, zm_em_b1, zm_eo_u, zm_eo_un, zm_eL_u, zm_eL_u0, nI_clamp, nI_1, nI_add, zs_m2, zs_m4, zs_m5, zs_m8, zs_d2, zs_s1, zs_in, zs_leT, zs_leF, zs_ltT, zs_ltF, zs_eqT, zs_eqF, zs_m1e, zs_oe, zs_0lt, zs_e0T, zs_e0F, zs_2n, true_implies, forall_const, not_true_eq_false, not_false_eq_true, false_implies, and_true, true_and, implies_true, zs_l1T, zs_l1F, zs_l2T, zs_l2F, zs_l4T, zs_l4F, zs_l8T, zs_l8F, zs_l16T, zs_l16F, zs_l32T, zs_l32F, zs_l64T, zs_l64F, zs_l320T, zs_l320F, zs_l513T, zs_l513F, zs_l2561T, zs_l2561F, zs_t4T, zs_t4F, zs_e1T, zs_e1F, zs_nl0T, zs_nl0F, zs_nb, pk_rem, lN_1, zs_lleT, zs_lleF, zs_le0T, zs_le0F]
      exact K x iu il I
theorem zx_join {post : Int32 → SX → Prop} {t : Nat} (h8 : nd ≤ 8 ∧ bk ≤ 8) (hw : wy ≤ 4) (ht : t < nd) (J : zp_J nd bk se wy ln rx eg cu cl t) (hX : zp_X nd bk se wy ln rx eg iu il)
    (K0 : (∀ b, b < bk → cu b ≤ iu (t * 8 + b) ∧ il (t * 8 + b) ≤ cl b) → post 0 (nI nd, nI bk, nI se, nI wy, nI st, nI wn, nI wp, hit, mis, zm_em rx, zm_em ln, zm_eo eg, zm_em so, zm_em rc, zm_em iu, zm_em il, zm_em cu, zm_em cl, zm_em li, zm_em fi))
    (K1 : ∀ u l : Nat → Nat, zp_X nd bk se wy ln rx eg u l → zm_mu 64 wy iu il < zm_mu 64 wy u l → post 1 (nI nd, nI bk, nI se, nI wy, nI st, nI wn, nI wp, hit, mis, zm_em rx, zm_em ln, zm_eo eg, zm_em so, zm_em rc, zm_em u, zm_em l, zm_em cu, zm_em cl, zm_em li, zm_em fi)) : wpX_joinInto post (nI nd, nI bk, nI se, nI wy, nI st, nI wn, nI wp, hit, mis, zm_em rx, zm_em ln, zm_eo eg, zm_em so, zm_em rc, zm_em iu, zm_em il, zm_em cu, zm_em cl, zm_em li, zm_em fi) (nI t) := by
  simp (disch := omega) only [wpX_joinInto, forall_eq, zm_em_a, zm_eo_a, zm_eL_a, zm_oi_s, zm_oi_n, zm_em_u, zm_em_u0, zm_em_b0, zm_em_b1, zm_eo_u, zm_eo_un, zm_eL_u, zm_eL_u0, nI_clamp, nI_1, nI_add, zs_m2, zs_m4, zs_m5, zs_m8, zs_d2, zs_s1, zs_in, zs_leT, zs_leF, zs_ltT, zs_ltF, zs_eqT, zs_eqF, zs_m1e, zs_oe, zs_0lt, zs_e0T, zs_e0F, zs_2n, true_implies, forall_const, not_true_eq_false, not_false_eq_true, false_implies, and_true, true_and, implies_true, zs_l1T, zs_l1F, zs_l2T, zs_l2F, zs_l4T, zs_l4F, zs_l8T, zs_l8F, zs_l16T, zs_l16F, zs_l32T, zs_l32F, zs_l64T, zs_l64F, zs_l320T, zs_l320F, zs_l513T, zs_l513F, zs_l2561T, zs_l2561F, zs_t4T, zs_t4F, zs_e1T, zs_e1F, zs_nl0T, zs_nl0F, zs_nb, pk_rem, lN_1, zs_lleT, zs_lleF, zs_le0T, zs_le0F]
  refine ⟨9, zx_j10 (m := zm_mu 64 wy iu il) (H := fun u l => u = iu ∧ l = il) h8 hw ht J (fun x u l I => ?_) 9 0 0 iu il (by omega) (by omega) ⟨hX, Nat.le_refl _, Or.inl ⟨rfl, ⟨rfl, rfl⟩, fun c hc => absurd hc (by omega)⟩⟩⟩
  rcases I.2.2 with ⟨rfl, ⟨rfl, rfl⟩, hp⟩ | ⟨rfl, hm⟩
  · exact K0 hp
  · exact K1 u l I.1 hm
theorem zx_pr15 {post : Int32 → SX → Prop} {n m : Nat} {u0 l0 : Nat → Nat} (h8 : nd ≤ 8 ∧ bk ≤ 8) (hw : wy ≤ 4) (G : zp_G nd bk ln rx eg) (hn : n < nd) (hR : zp_R nd eg n) (hX0 : zp_X nd bk se wy ln rx eg u0 l0)
    (hu : ∀ b, b < bk → cu b = zp_sU se rx n (zp_sl u0 n) (ln n) b) (hl : ∀ b, b < bk → cl b = zp_sL se wy rx n (zp_sl l0 n) (ln n) b)
    (K : ∀ x (u l : Nat → Nat), zq_I nd bk se wy ln rx eg (fun u l => u = u0 ∧ l = l0 ∧ ∀ s, s < 2 → zp_N bk se wy ln rx eg u0 l0 n s) m x u l → post (nI x) (nI nd, nI bk, nI se, nI wy, nI st, nI wn, nI wp, hit, mis, zm_em rx, zm_em ln, zm_eo eg, zm_em so, zm_em rc, zm_em u, zm_em l, zm_em cu, zm_em cl, zm_em li, zm_em fi)) : ∀ f s x (iu il : Nat → Nat), s ≤ 2 → 2 - s < f →
      zq_I nd bk se wy ln rx eg (fun u l => u = u0 ∧ l = l0 ∧ ∀ c, c < s → zp_N bk se wy ln rx eg u0 l0 n c) m x iu il →
      wX_propagate_15 post (nI n) f (nI x) (nI s) (nI nd) (nI bk) (nI se) (nI wy) (nI st) (nI wn) (nI wp) hit mis (zm_em rx) (zm_em ln) (zm_eo eg) (zm_em so) (zm_em rc) (zm_em iu) (zm_em il) (zm_em cu) (zm_em cl) (zm_em li) (zm_em fi) := by
  intro f
  induction f with
  | zero => intro b _ _ _ _ h; omega
  | succ f ih =>
    intro s x iu il hs hf I
    have hx := zq_le I
    rcases Nat.lt_or_ge s 2 with h | h
    · rcases e : eg (n * 2 + s) with _ | t
      · simp (disch := omega) only [wX_propagate_15, e, forall_eq, zm_em_a, zm_eo_a, zm_eL_a, zm_oi_s, zm_oi_n, zm_em_u, zm_em_u0, zm_em_b0, zm_em_b1, zm_eo_u, zm_eo_un, zm_eL_u, zm_eL_u0, nI_clamp, nI_1, nI_add, zs_m2, zs_m4, zs_m5, zs_m8, zs_d2, zs_s1, zs_in, zs_leT, zs_leF, zs_ltT, zs_ltF, zs_eqT, zs_eqF, zs_m1e, zs_oe, zs_0lt, zs_e0T, zs_e0F, zs_2n, true_implies, forall_const, not_true_eq_false, not_false_eq_true, false_implies, and_true, true_and, implies_true, zs_l1T, zs_l1F, zs_l2T, zs_l2F, zs_l4T, zs_l4F, zs_l8T, zs_l8F, zs_l16T, zs_l16F, zs_l32T, zs_l32F, zs_l64T, zs_l64F, zs_l320T, zs_l320F, zs_l513T, zs_l513F, zs_l2561T, zs_l2561F, zs_t4T, zs_t4F, zs_e1T, zs_e1F, zs_nl0T, zs_nl0F, zs_nb, pk_rem, lN_1, zs_lleT, zs_lleF, zs_le0T, zs_le0F]
        refine ih (s + 1) x _ _ (by omega) (by omega) (zq_k I (fun hp => ⟨hp.1, hp.2.1, fun c hc => ?_⟩))
        rcases Nat.lt_or_ge c s with z | z
        · exact hp.2.2 c z
        · have ec : c = s := by omega
          rw [ec]; intro t et; rw [e] at et; cases et
      · have ht : t < nd := G.2.2 n hn s h t e
        have J : zp_J nd bk se wy ln rx eg cu cl t := zp_J_of G h8 hX0 hn hR h e hu hl
        simp (disch := omega) only [wX_propagate_15, e, forall_eq, zm_em_a, zm_eo_a, zm_eL_a, zm_oi_s, zm_oi_n, zm_em_u, zm_em_u0, zm_em_b0, zm_em_b1, zm_eo_u, zm_eo_un, zm_eL_u, zm_eL_u0, nI_clamp, nI_1, nI_add, zs_m2, zs_m4, zs_m5, zs_m8, zs_d2, zs_s1, zs_in, zs_leT, zs_leF, zs_ltT, zs_ltF, zs_eqT, zs_eqF, zs_m1e, zs_oe, zs_0lt, zs_e0T, zs_e0F, zs_2n, true_implies, forall_const, not_true_eq_false, not_false_eq_true, false_implies, and_true, true_and, implies_true, zs_l1T, zs_l1F, zs_l2T, zs_l2F, zs_l4T, zs_l4F, zs_l8T, zs_l8F, zs_l16T, zs_l16F, zs_l32T, zs_l32F, zs_l64T, zs_l64F, zs_l320T, zs_l320F, zs_l513T, zs_l513F, zs_l2561T, zs_l2561F, zs_t4T, zs_t4F, zs_e1T, zs_e1F, zs_nl0T, zs_nl0F, zs_nb, pk_rem, lN_1, zs_lleT, zs_lleF, zs_le0T, zs_le0F]
        refine zx_join h8 hw ht J I.1 (fun hj => ?_) (fun u l X' hm => ?_)
        · refine br_t rfl ?_
          refine ih (s + 1) x _ _ (by omega) (by omega) (zq_k I (fun hp => ⟨hp.1, hp.2.1, fun c hc => ?_⟩))
          rcases Nat.lt_or_ge c s with z | z
          · exact hp.2.2 c z
          · have ec : c = s := by omega
            rw [ec]; intro t' et; rw [e] at et; cases et
            intro b hb
            have := hj b hb
            rw [hu b hb, hl b hb, hp.1, hp.2.1] at this
            exact this
        · refine br_f (by decide) ?_
          exact ih (s + 1) 1 _ _ (by omega) (by omega) (zq_s I X' hm)
    · have e : s = 2 := by omega
      subst e
      simp (disch := omega) only [wX_propagate_15, forall_eq, zm_em_a, zm_eo_a, zm_eL_a, zm_oi_s, zm_oi_n, zm_em_u, zm_em_u0, zm_em_b0, zm_em_b1, zm_eo_u, zm_eo_un, zm_eL_u, zm_eL_u0, nI_clamp, nI_1, nI_add, zs_m2, zs_m4, zs_m5, zs_m8, zs_d2, zs_s1, zs_in, zs_leT, zs_leF, zs_ltT, zs_ltF, zs_eqT, zs_eqF, zs_m1e, zs_oe, zs_0lt, zs_e0T, zs_e0F, zs_2n, true_implies, forall_const, not_true_eq_false, not_false_eq_true, false_implies, and_true, true_and, implies_true, zs_l1T, zs_l1F, zs_l2T, zs_l2F, zs_l4T, zs_l4F, zs_l8T, zs_l8F, zs_l16T, zs_l16F, zs_l32T, zs_l32F, zs_l64T, zs_l64F, zs_l320T, zs_l320F, zs_l513T, zs_l513F, zs_l2561T, zs_l2561F, zs_t4T, zs_t4F, zs_e1T, zs_e1F, zs_nl0T, zs_nl0F, zs_nb, pk_rem, lN_1, zs_lleT, zs_lleF, zs_le0T, zs_le0F]
      exact K x iu il I
theorem zx_propagate {post : Int32 → SX → Prop} {n : Nat} (h8 : nd ≤ 8 ∧ bk ≤ 8) (hw : wy ≤ 4) (hse : 1 ≤ se ∧ se ≤ 4) (hso : ∀ b, b < 8 → so b = b % se) (G : zp_G nd bk ln rx eg) (hn : n < nd) (hR : zp_R nd eg n) (hX : zp_X nd bk se wy ln rx eg iu il)
    (K0 : ∀ c d : Nat → Nat, (∀ s, s < 2 → zp_N bk se wy ln rx eg iu il n s) → post 0 (nI nd, nI bk, nI se, nI wy, nI st, nI wn, nI wp, hit, mis, zm_em rx, zm_em ln, zm_eo eg, zm_em so, zm_em rc, zm_em iu, zm_em il, zm_em c, zm_em d, zm_em li, zm_em fi))
    (K1 : ∀ c d u l : Nat → Nat, zp_X nd bk se wy ln rx eg u l → zm_mu 64 wy iu il < zm_mu 64 wy u l → post 1 (nI nd, nI bk, nI se, nI wy, nI st, nI wn, nI wp, hit, mis, zm_em rx, zm_em ln, zm_eo eg, zm_em so, zm_em rc, zm_em u, zm_em l, zm_em c, zm_em d, zm_em li, zm_em fi)) : wpX_propagate post (nI nd, nI bk, nI se, nI wy, nI st, nI wn, nI wp, hit, mis, zm_em rx, zm_em ln, zm_eo eg, zm_em so, zm_em rc, zm_em iu, zm_em il, zm_em cu, zm_em cl, zm_em li, zm_em fi) (nI n) := by
  have h4 := G.1 n hn
  simp (disch := omega) only [wpX_propagate, forall_eq, zm_em_a, zm_eo_a, zm_eL_a, zm_oi_s, zm_oi_n, zm_em_u, zm_em_u0, zm_em_b0, zm_em_b1, zm_eo_u, zm_eo_un, zm_eL_u, zm_eL_u0, nI_clamp, nI_1, nI_add, zs_m2, zs_m4, zs_m5, zs_m8, zs_d2, zs_s1, zs_in, zs_leT, zs_leF, zs_ltT, zs_ltF, zs_eqT, zs_eqF, zs_m1e, zs_oe, zs_0lt, zs_e0T, zs_e0F, zs_2n, true_implies, forall_const, not_true_eq_false, not_false_eq_true, false_implies, and_true, true_and, implies_true, zs_l1T, zs_l1F, zs_l2T, zs_l2F, zs_l4T, zs_l4F, zs_l8T, zs_l8F, zs_l16T, zs_l16F, zs_l32T, zs_l32F, zs_l64T, zs_l64F, zs_l320T, zs_l320F, zs_l513T, zs_l513F, zs_l2561T, zs_l2561F, zs_t4T, zs_t4F, zs_e1T, zs_e1F, zs_nl0T, zs_nl0F, zs_nb, pk_rem, lN_1, zs_lleT, zs_lleF, zs_le0T, zs_le0F]
  refine zx_load h8 hw hse hso hn h4 (G.2.1 n hn) hX.1 (fun c d hc hd => ?_)
  refine ⟨3, zx_pr15 (m := zm_mu 64 wy iu il) (u0 := iu) (l0 := il) h8 hw G hn hR hX hc hd (fun x u l I => ?_) 3 0 0 iu il (by omega) (by omega) ⟨hX, Nat.le_refl _, Or.inl ⟨rfl, rfl, rfl, fun c hc => absurd hc (by omega)⟩⟩⟩
  rcases I.2.2 with ⟨rfl, rfl, rfl, hp⟩ | ⟨rfl, hm⟩
  · exact K0 c d hp
  · exact K1 c d u l I.1 hm
theorem zx_s19 {post : SX → Prop} {J4 : Int32 → Int32 → Int32 → Int32 → Int32 → Int32 → Int32 → Int32 → Int32 → Int32 → Int32 → (Nat → Int32) → (Nat → Int32) → (Nat → Int32) → (Nat → Int32) → (Nat → Int32) → (Nat → Int32) → (Nat → Int32) → (Nat → Int32) → (Nat → Int32) → (Nat → Int32) → (Nat → Int32) → Prop} {k m : Nat} (h8 : nd ≤ 8 ∧ bk ≤ 8) (hw : wy ≤ 4) (hse : 1 ≤ se ∧ se ≤ 4) (hso : ∀ b, b < 8 → so b = b % se) (G : zp_G nd bk ln rx eg)
    (hrb : ∀ n, n < nd → rc n ≤ 1) (hr : ∀ n, n < nd → (rc n ≠ 0 ↔ zp_R nd eg n))
    (K : ∀ x (iu il cu cl : Nat → Nat), zq_I nd bk se wy ln rx eg (fun u l => ∀ n, n < nd → zp_R nd eg n → ∀ s, s < 2 → zp_N bk se wy ln rx eg u l n s) m x iu il → J4 (nI x) (nI (k + 1)) (nI nd) (nI bk) (nI se) (nI wy) (nI st) (nI wn) (nI wp) hit mis (zm_em rx) (zm_em ln) (zm_eo eg) (zm_em so) (zm_em rc) (zm_em iu) (zm_em il) (zm_em cu) (zm_em cl) (zm_em li) (zm_em fi)) : ∀ f n x (iu il cu cl : Nat → Nat), n ≤ nd → nd - n < f →
      zq_I nd bk se wy ln rx eg (fun u l => ∀ c, c < n → zp_R nd eg c → ∀ s, s < 2 → zp_N bk se wy ln rx eg u l c s) m x iu il →
      wX_solve_19 post J4 (nI k) f (nI x) (nI n) (nI nd) (nI bk) (nI se) (nI wy) (nI st) (nI wn) (nI wp) hit mis (zm_em rx) (zm_em ln) (zm_eo eg) (zm_em so) (zm_em rc) (zm_em iu) (zm_em il) (zm_em cu) (zm_em cl) (zm_em li) (zm_em fi) := by
  intro f
  induction f with
  | zero => intro n _ _ _ _ _ _ h; omega
  | succ f ih =>
    intro n x iu il cu cl hn hf I
    rcases Nat.lt_or_ge n nd with h | h
    · have hb := hrb n h
      by_cases z : rc n = 0
      · simp (disch := omega) only [wX_solve_19, forall_eq, zm_em_a, zm_eo_a, zm_eL_a, zm_oi_s, zm_oi_n, zm_em_u, zm_em_u0, zm_em_b0, zm_em_b1, zm_eo_u, zm_eo_un, zm_eL_u, zm_eL_u0, nI_clamp, nI_1, nI_add, zs_m2, zs_m4, zs_m5, zs_m8, zs_d2, zs_s1, zs_in, zs_leT, zs_leF, zs_ltT, zs_ltF, zs_eqT, zs_eqF, zs_m1e, zs_oe, zs_0lt, zs_e0T, zs_e0F, zs_2n, true_implies, forall_const, not_true_eq_false, not_false_eq_true, false_implies, and_true, true_and, implies_true, zs_l1T, zs_l1F, zs_l2T, zs_l2F, zs_l4T, zs_l4F, zs_l8T, zs_l8F, zs_l16T, zs_l16F, zs_l32T, zs_l32F, zs_l64T, zs_l64F, zs_l320T, zs_l320F, zs_l513T, zs_l513F, zs_l2561T, zs_l2561F, zs_t4T, zs_t4F, zs_e1T, zs_e1F, zs_nl0T, zs_nl0F, zs_nb, pk_rem, lN_1, zs_lleT, zs_lleF, zs_le0T, zs_le0F]
        refine ih (n + 1) x _ _ _ _ (by omega) (by omega) (zq_k I (fun hp c hc hR => ?_))
        rcases Nat.lt_or_ge c n with q | q
        · exact hp c q hR
        · have ec : c = n := by omega
          rw [ec] at hR
          exact absurd z ((hr n h).mpr hR)
      · have hR := (hr n h).mp z
        simp (disch := omega) only [wX_solve_19, forall_eq, zm_em_a, zm_eo_a, zm_eL_a, zm_oi_s, zm_oi_n, zm_em_u, zm_em_u0, zm_em_b0, zm_em_b1, zm_eo_u, zm_eo_un, zm_eL_u, zm_eL_u0, nI_clamp, nI_1, nI_add, zs_m2, zs_m4, zs_m5, zs_m8, zs_d2, zs_s1, zs_in, zs_leT, zs_leF, zs_ltT, zs_ltF, zs_eqT, zs_eqF, zs_m1e, zs_oe, zs_0lt, zs_e0T, zs_e0F, zs_2n, true_implies, forall_const, not_true_eq_false, not_false_eq_true, false_implies, and_true, true_and, implies_true, zs_l1T, zs_l1F, zs_l2T, zs_l2F, zs_l4T, zs_l4F, zs_l8T, zs_l8F, zs_l16T, zs_l16F, zs_l32T, zs_l32F, zs_l64T, zs_l64F, zs_l320T, zs_l320F, zs_l513T, zs_l513F, zs_l2561T, zs_l2561F, zs_t4T, zs_t4F, zs_e1T, zs_e1F, zs_nl0T, zs_nl0F, zs_nb, pk_rem, lN_1, zs_lleT, zs_lleF, zs_le0T, zs_le0F]
        refine zx_propagate h8 hw hse hso G h hR I.1 (fun c d hN => ?_) (fun c d u l X' hm => ?_)
        · refine br_t rfl ?_
          refine ih (n + 1) x _ _ _ _ (by omega) (by omega) (zq_k I (fun hp c hc hR => ?_))
          rcases Nat.lt_or_ge c n with q | q
          · exact hp c q hR
          · have ec : c = n := by omega
            rw [ec]; exact hN
        · refine br_f (by decide) ?_
          exact ih (n + 1) 1 _ _ _ _ (by omega) (by omega) (zq_s I X' hm)
    · have e : n = nd := by omega
      subst e
      simp (disch := omega) only [wX_solve_19, forall_eq, zm_em_a, zm_eo_a, zm_eL_a, zm_oi_s, zm_oi_n, zm_em_u, zm_em_u0, zm_em_b0, zm_em_b1, zm_eo_u, zm_eo_un, zm_eL_u, zm_eL_u0, nI_clamp, nI_1, nI_add, zs_m2, zs_m4, zs_m5, zs_m8, zs_d2, zs_s1, zs_in, zs_leT, zs_leF, zs_ltT, zs_ltF, zs_eqT, zs_eqF, zs_m1e, zs_oe, zs_0lt, zs_e0T, zs_e0F, zs_2n, true_implies, forall_const, not_true_eq_false, not_false_eq_true, false_implies, and_true, true_and, implies_true, zs_l1T, zs_l1F, zs_l2T, zs_l2F, zs_l4T, zs_l4F, zs_l8T, zs_l8F, zs_l16T, zs_l16F, zs_l32T, zs_l32F, zs_l64T, zs_l64F, zs_l320T, zs_l320F, zs_l513T, zs_l513F, zs_l2561T, zs_l2561F, zs_t4T, zs_t4F, zs_e1T, zs_e1F, zs_nl0T, zs_nl0F, zs_nb, pk_rem, lN_1, zs_lleT, zs_lleF, zs_le0T, zs_le0F]
      exact K x iu il cu cl I
theorem zx_s4 {post : SX → Prop} (h8 : nd ≤ 8 ∧ bk ≤ 8) (hw : wy ≤ 4) (hse : 1 ≤ se ∧ se ≤ 4) (hso : ∀ b, b < 8 → so b = b % se) (G : zp_G nd bk ln rx eg)
    (hrb : ∀ n, n < nd → rc n ≤ 1) (hr : ∀ n, n < nd → (rc n ≠ 0 ↔ zp_R nd eg n))
    (K : ∀ iu il cu cl : Nat → Nat, zp_X nd bk se wy ln rx eg iu il → (∀ n, n < nd → zp_R nd eg n → ∀ s, s < 2 → zp_N bk se wy ln rx eg iu il n s) → post (nI nd, nI bk, nI se, nI wy, nI st, nI wn, nI wp, hit, mis, zm_em rx, zm_em ln, zm_eo eg, zm_em so, zm_em rc, zm_em iu, zm_em il, zm_em cu, zm_em cl, zm_em li, zm_em fi)) : ∀ f k x (iu il cu cl : Nat → Nat), k ≤ 513 → 513 - k < f → zp_X nd bk se wy ln rx eg iu il →
      ((x = 0 ∧ ∀ n, n < nd → zp_R nd eg n → ∀ s, s < 2 → zp_N bk se wy ln rx eg iu il n s) ∨ (x = 1 ∧ k ≤ zm_mu 64 wy iu il)) →
      wX_solve_4 post f (nI x) (nI k) (nI nd) (nI bk) (nI se) (nI wy) (nI st) (nI wn) (nI wp) hit mis (zm_em rx) (zm_em ln) (zm_eo eg) (zm_em so) (zm_em rc) (zm_em iu) (zm_em il) (zm_em cu) (zm_em cl) (zm_em li) (zm_em fi) := by
  intro f
  induction f with
  | zero => intro n _ _ _ _ _ _ h; omega
  | succ f ih =>
    intro k x iu il cu cl hk hf hX hd
    rcases hd with ⟨rfl, hd⟩ | ⟨rfl, hd⟩
    · rcases Nat.lt_or_ge k 513 with h | h
      · simp (disch := omega) only [wX_solve_4, forall_eq, zm_em_a, zm_eo_a, zm_eL_a, zm_oi_s, zm_oi_n, zm_em_u, zm_em_u0, zm_em_b0, zm_em_b1, zm_eo_u, zm_eo_un, zm_eL_u, zm_eL_u0, nI_clamp, nI_1, nI_add, zs_m2, zs_m4, zs_m5, zs_m8, zs_d2, zs_s1, zs_in, zs_leT, zs_leF, zs_ltT, zs_ltF, zs_eqT, zs_eqF, zs_m1e, zs_oe, zs_0lt, zs_e0T, zs_e0F, zs_2n, true_implies, forall_const, not_true_eq_false, not_false_eq_true, false_implies, and_true, true_and, implies_true, zs_l1T, zs_l1F, zs_l2T, zs_l2F, zs_l4T, zs_l4F, zs_l8T, zs_l8F, zs_l16T, zs_l16F, zs_l32T, zs_l32F, zs_l64T, zs_l64F, zs_l320T, zs_l320F, zs_l513T, zs_l513F, zs_l2561T, zs_l2561F, zs_t4T, zs_t4F, zs_e1T, zs_e1F, zs_nl0T, zs_nl0F, zs_nb, pk_rem, lN_1, zs_lleT, zs_lleF, zs_le0T, zs_le0F]
        exact K iu il cu cl hX hd
      · simp (disch := omega) only [wX_solve_4, forall_eq, zm_em_a, zm_eo_a, zm_eL_a, zm_oi_s, zm_oi_n, zm_em_u, zm_em_u0, zm_em_b0, zm_em_b1, zm_eo_u, zm_eo_un, zm_eL_u, zm_eL_u0, nI_clamp, nI_1, nI_add, zs_m2, zs_m4, zs_m5, zs_m8, zs_d2, zs_s1, zs_in, zs_leT, zs_leF, zs_ltT, zs_ltF, zs_eqT, zs_eqF, zs_m1e, zs_oe, zs_0lt, zs_e0T, zs_e0F, zs_2n, true_implies, forall_const, not_true_eq_false, not_false_eq_true, false_implies, and_true, true_and, implies_true, zs_l1T, zs_l1F, zs_l2T, zs_l2F, zs_l4T, zs_l4F, zs_l8T, zs_l8F, zs_l16T, zs_l16F, zs_l32T, zs_l32F, zs_l64T, zs_l64F, zs_l320T, zs_l320F, zs_l513T, zs_l513F, zs_l2561T, zs_l2561F, zs_t4T, zs_t4F, zs_e1T, zs_e1F, zs_nl0T, zs_nl0F, zs_nb, pk_rem, lN_1, zs_lleT, zs_lleF, zs_le0T, zs_le0F]
        exact K iu il cu cl hX hd
    · have hmu := zm_mu_le (m := 64) (wy := wy) (g := il) (fun j hj => (hX.1 j hj).1)
      have h : k < 513 := by omega
      simp (disch := omega) only [wX_solve_4, forall_eq, zm_em_a, zm_eo_a, zm_eL_a, zm_oi_s, zm_oi_n, zm_em_u, zm_em_u0, zm_em_b0, zm_em_b1, zm_eo_u, zm_eo_un, zm_eL_u, zm_eL_u0, nI_clamp, nI_1, nI_add, zs_m2, zs_m4, zs_m5, zs_m8, zs_d2, zs_s1, zs_in, zs_leT, zs_leF, zs_ltT, zs_ltF, zs_eqT, zs_eqF, zs_m1e, zs_oe, zs_0lt, zs_e0T, zs_e0F, zs_2n, true_implies, forall_const, not_true_eq_false, not_false_eq_true, false_implies, and_true, true_and, implies_true, zs_l1T, zs_l1F, zs_l2T, zs_l2F, zs_l4T, zs_l4F, zs_l8T, zs_l8F, zs_l16T, zs_l16F, zs_l32T, zs_l32F, zs_l64T, zs_l64F, zs_l320T, zs_l320F, zs_l513T, zs_l513F, zs_l2561T, zs_l2561F, zs_t4T, zs_t4F, zs_e1T, zs_e1F, zs_nl0T, zs_nl0F, zs_nb, pk_rem, lN_1, zs_lleT, zs_lleF, zs_le0T, zs_le0F]
      exact ⟨9, zx_s19 (m := k) h8 hw hse hso G hrb hr (fun x iu il cu cl I => ih (k + 1) x iu il cu cl (by omega) (by omega) I.1 (I.2.2.elim Or.inl Or.inr)) 9 0 0 iu il cu cl (by omega) (by omega) ⟨hX, hd, Or.inl ⟨rfl, fun c hc => absurd hc (by omega)⟩⟩⟩
/-- the component's bounds are fresh -/
def zx_A (nd bk se wy : Nat) (ln rx : Nat → Nat) (eg : Nat → Option Nat) (rc iu il : Nat → Nat) : Prop :=
  (∀ n, n < nd → rc n ≤ 1) ∧ (∀ n, n < nd → (rc n ≠ 0 ↔ zp_R nd eg n)) ∧ zp_LU nd bk se wy ln rx eg iu ∧ zp_LL nd bk se wy ln rx eg il ∧ ∀ j, j < 64 → iu j ≤ wy ∧ il j ≤ wy
theorem zx_refresh {post : SX → Prop} (h1 : 1 ≤ nd) (h8 : nd ≤ 8 ∧ bk ≤ 8) (hw : wy ≤ 4) (hse : 1 ≤ se ∧ se ≤ 4) (hso : ∀ b, b < 8 → so b = b % se) (G : zp_G nd bk ln rx eg) (hst : st ≤ 1) (A : st = 0 → zx_A nd bk se wy ln rx eg rc iu il)
    (K : ∀ rc iu il cu cl : Nat → Nat, zx_A nd bk se wy ln rx eg rc iu il → post (nI nd, nI bk, nI se, nI wy, nI 0, nI wn, nI wp, hit, mis, zm_em rx, zm_em ln, zm_eo eg, zm_em so, zm_em rc, zm_em iu, zm_em il, zm_em cu, zm_em cl, zm_em li, zm_em fi)) : wpX_refresh post (nI nd, nI bk, nI se, nI wy, nI st, nI wn, nI wp, hit, mis, zm_em rx, zm_em ln, zm_eo eg, zm_em so, zm_em rc, zm_em iu, zm_em il, zm_em cu, zm_em cl, zm_em li, zm_em fi) := by
  by_cases e : st = 0
  · subst e
    exact br_t nI_0 (K rc iu il cu cl (A rfl))
  · refine br_f (nI_ne0 (by omega) (by omega)) ?_
    refine zx_findReached h1 h8.1 G.2.2 (fun r hrb hr => ?_)
    refine zx_startBounds (rc := r) h8 (fun u l hX => ?_)
    refine ⟨514, zx_s4 (rc := r) h8 hw hse hso G hrb hr (fun u' l' c d hX' hN => ?_) 514 0 1 u l cu cl (by omega) (by omega) hX (Or.inr ⟨rfl, Nat.zero_le _⟩)⟩
    have hf := zp_X_fin h8 hX' hN
    exact K r u' l' c d ⟨hrb, hr, hf.1, hf.2, hX'.1⟩
end
end
section
/-! the component: questions about the bounds -/
noncomputable def zp_cls (nd bk se wy : Nat) (ln rx : Nat → Nat) (eg : Nat → Option Nat) (n q : Nat) : Int32 :=
  @ite Int32 (zp_R nd eg n) (Classical.propDecidable _) (if zp_vU nd bk se wy ln rx eg n q (rx (n * 4 + q)) < wy then 1 else if zp_vL nd bk se wy ln rx eg n q (rx (n * 4 + q)) = wy then 2 else 3) (-4)
def zp_ci (cls : Nat → Nat → Int32) (kv : Int32) (n : Nat) (t : Int32) : Nat → Int32
  | 0 => t
  | p + 1 => if cls n p = kv then zp_ci cls kv n t p + 1 else zp_ci cls kv n t p
def zp_co (cls : Nat → Nat → Int32) (kv : Int32) (ln : Nat → Nat) : Nat → Int32
  | 0 => 0
  | n + 1 => zp_ci cls kv n (zp_co cls kv ln n) (ln n)
section
variable {nd bk se wy : Nat} {ln rx : Nat → Nat} {eg : Nat → Option Nat} {n q : Nat}
theorem zp_cls_n (h : ¬ zp_R nd eg n) : zp_cls nd bk se wy ln rx eg n q = -4 := by
  unfold zp_cls; rw [if_neg h]
theorem zp_cls_1 (h : zp_R nd eg n) (h1 : zp_vU nd bk se wy ln rx eg n q (rx (n * 4 + q)) < wy) : zp_cls nd bk se wy ln rx eg n q = 1 := by
  unfold zp_cls; rw [if_pos h, if_pos h1]
theorem zp_cls_2 (h : zp_R nd eg n) (h1 : ¬ zp_vU nd bk se wy ln rx eg n q (rx (n * 4 + q)) < wy) (h2 : zp_vL nd bk se wy ln rx eg n q (rx (n * 4 + q)) = wy) : zp_cls nd bk se wy ln rx eg n q = 2 := by
  unfold zp_cls; rw [if_pos h, if_neg h1, if_pos h2]
theorem zp_cls_3 (h : zp_R nd eg n) (h1 : ¬ zp_vU nd bk se wy ln rx eg n q (rx (n * 4 + q)) < wy) (h2 : ¬ zp_vL nd bk se wy ln rx eg n q (rx (n * 4 + q)) = wy) : zp_cls nd bk se wy ln rx eg n q = 3 := by
  unfold zp_cls; rw [if_pos h, if_neg h1, if_neg h2]
/-- the arguments of a question about a bound are refused -/
def zp_bad (nd bk : Nat) (ln : Nat → Nat) (v1 v2 v3 : Int32) : Prop :=
  (v1 < 0 ∨ nI nd ≤ v1) ∨ ∃ n, n < nd ∧ v1 = nI n ∧ (v2 < 0 ∨ ∃ q, q < 2 ^ 31 ∧ v2 = nI q ∧ (ln n < q ∨ (q ≤ ln n ∧ (v3 < 0 ∨ nI bk ≤ v3))))
def zp_bad2 (nd : Nat) (ln : Nat → Nat) (v1 v2 : Int32) : Prop :=
  (v1 < 0 ∨ nI nd ≤ v1) ∨ ∃ n, n < nd ∧ v1 = nI n ∧ (v2 < 0 ∨ ∃ q, q < 2 ^ 31 ∧ v2 = nI q ∧ ln n ≤ q)
theorem zp_bad_or (h8 : nd ≤ 8 ∧ bk ≤ 8) (v1 v2 v3 : Int32) : zp_bad nd bk ln v1 v2 v3 ∨ ∃ n q b, n < nd ∧ q ≤ ln n ∧ b < bk ∧ v1 = nI n ∧ v2 = nI q ∧ v3 = nI b := by
  rcases pk_ix v1 (n := nd) (by omega) with h | h | ⟨n, hn, e1⟩
  · exact Or.inl (Or.inl (Or.inl h))
  · exact Or.inl (Or.inl (Or.inr h))
  · by_cases h : v2 < 0
    · exact Or.inl (Or.inr ⟨n, hn, e1, Or.inl h⟩)
    · obtain ⟨q, hq, e2⟩ := nI_of h
      rcases Nat.lt_or_ge (ln n) q with h | h
      · exact Or.inl (Or.inr ⟨n, hn, e1, Or.inr ⟨q, hq, e2, Or.inl h⟩⟩)
      · rcases pk_ix v3 (n := bk) (by omega) with h3 | h3 | ⟨b, hb, e3⟩
        · exact Or.inl (Or.inr ⟨n, hn, e1, Or.inr ⟨q, hq, e2, Or.inr ⟨h, Or.inl h3⟩⟩⟩)
        · exact Or.inl (Or.inr ⟨n, hn, e1, Or.inr ⟨q, hq, e2, Or.inr ⟨h, Or.inr h3⟩⟩⟩)
        · exact Or.inr ⟨n, q, b, hn, h, hb, e1, e2, e3⟩
theorem zp_bad2_or (h8 : nd ≤ 8) (v1 v2 : Int32) : zp_bad2 nd ln v1 v2 ∨ ∃ n q, n < nd ∧ q < ln n ∧ v1 = nI n ∧ v2 = nI q := by
  rcases pk_ix v1 (n := nd) (by omega) with h | h | ⟨n, hn, e1⟩
  · exact Or.inl (Or.inl (Or.inl h))
  · exact Or.inl (Or.inl (Or.inr h))
  · by_cases h : v2 < 0
    · exact Or.inl (Or.inr ⟨n, hn, e1, Or.inl h⟩)
    · obtain ⟨q, hq, e2⟩ := nI_of h
      rcases Nat.lt_or_ge q (ln n) with h | h
      · exact Or.inr ⟨n, q, hn, h, e1, e2⟩
      · exact Or.inl (Or.inr ⟨n, hn, e1, Or.inr ⟨q, hq, e2, h⟩⟩)
/-- what stays fixed between the calls -/
def zp_H (nd bk se wy : Nat) (ln rx : Nat → Nat) (eg : Nat → Option Nat) : Prop :=
  (1 ≤ nd ∧ nd ≤ 8) ∧ (1 ≤ bk ∧ bk ≤ 8) ∧ (1 ≤ se ∧ se ≤ 4) ∧ (1 ≤ wy ∧ wy ≤ 4) ∧ zp_G nd bk ln rx eg
end
section
variable {nd bk se wy st wn wp : Nat} {hit mis : Int32} {rx ln so rc iu il cu cl li fi : Nat → Nat} {eg : Nat → Option Nat}
theorem zx_A_v (H : zp_H nd bk se wy ln rx eg) (A : zx_A nd bk se wy ln rx eg rc iu il) {n q b : Nat} (hn : n < nd) (hq : q ≤ ln n) (hb : b < bk) : zp_sU se rx n (zp_sl iu n) q b = zp_vU nd bk se wy ln rx eg n q b ∧ zp_sL se wy rx n (zp_sl il n) q b = zp_vL nd bk se wy ln rx eg n q b ∧ zp_vU nd bk se wy ln rx eg n q b ≤ wy ∧ zp_vL nd bk se wy ln rx eg n q b ≤ wy := by
  have G := H.2.2.2.2
  have e1 := zp_vU_of G A.2.2.1 hn hq hb
  have e2 := zp_vL_of G A.2.2.2.1 hn hq hb
  refine ⟨e1, e2, ?_, ?_⟩
  · rw [← e1]
    exact zp_sU_le (bk := bk) (fun b hb => (A.2.2.2.2 (n * 8 + b) (by have := H.1; have := H.2.1; omega)).1) q (fun p hp => G.2.1 n hn p (by omega)) b hb
  · rw [← e2]
    exact zp_sL_le (bk := bk) (fun b hb => (A.2.2.2.2 (n * 8 + b) (by have := H.1; have := H.2.1; omega)).2) q b hb
theorem zx_prepF {post : Int32 → SX → Prop} {v1 v2 v3 : Int32} (H : zp_H nd bk se wy ln rx eg) (hb : zp_bad nd bk ln v1 v2 v3) (K : post (-2) (nI nd, nI bk, nI se, nI wy, nI st, nI wn, nI wp, hit, mis, zm_em rx, zm_em ln, zm_eo eg, zm_em so, zm_em rc, zm_em iu, zm_em il, zm_em cu, zm_em cl, zm_em li, zm_em fi)) : wpX_prepareState post (nI nd, nI bk, nI se, nI wy, nI st, nI wn, nI wp, hit, mis, zm_em rx, zm_em ln, zm_eo eg, zm_em so, zm_em rc, zm_em iu, zm_em il, zm_em cu, zm_em cl, zm_em li, zm_em fi) v1 v2 v3 := by
  obtain ⟨h1, h2, -, -, G⟩ := H
  unfold wpX_prepareState
  try dsimp only
  rcases hb with hb | ⟨n, hn, rfl, hb⟩
  · exact zx_nodeF h1.2 hb (br_t rfl K)
  · refine zx_nodeT hn h1.2 (br_f (by decide) ?_)
    have h4 := G.1 n hn
    rcases hb with hb | ⟨q, hq, rfl, hb⟩
    · exact br_t hb K
    · refine br_f (nI_pos hq) ⟨vp_in_nI (by omega) (by decide), ?_⟩
      rw [nI_clamp (show n < 2 ^ 31 by omega), zm_em_a]
      rcases hb with hb | ⟨hb, hc⟩
      · exact br_t (nI_lt hb hq) K
      · exact br_f (nI_nlt hb (by omega)) (zx_blockF h2.2 hc (br_t rfl K))
theorem zx_prepT {post : Int32 → SX → Prop} {n q b : Nat} (H : zp_H nd bk se wy ln rx eg) (hso : ∀ b, b < 8 → so b = b % se) (hst : st ≤ 1) (A : st = 0 → zx_A nd bk se wy ln rx eg rc iu il) (hn : n < nd) (hq : q ≤ ln n) (hb : b < bk)
    (K4 : ¬ zp_R nd eg n → ∀ rc iu il cu cl : Nat → Nat, zx_A nd bk se wy ln rx eg rc iu il → post (-4) (nI nd, nI bk, nI se, nI wy, nI 0, nI wn, nI wp, hit, mis, zm_em rx, zm_em ln, zm_eo eg, zm_em so, zm_em rc, zm_em iu, zm_em il, zm_em cu, zm_em cl, zm_em li, zm_em fi))
    (K0 : zp_R nd eg n → ∀ rc iu il cu cl : Nat → Nat, zx_A nd bk se wy ln rx eg rc iu il → (∀ b, b < bk → cu b = zp_vU nd bk se wy ln rx eg n q b ∧ cl b = zp_vL nd bk se wy ln rx eg n q b) → post 0 (nI nd, nI bk, nI se, nI wy, nI 0, nI wn, nI wp, hit, mis, zm_em rx, zm_em ln, zm_eo eg, zm_em so, zm_em rc, zm_em iu, zm_em il, zm_em cu, zm_em cl, zm_em li, zm_em fi)) : wpX_prepareState post (nI nd, nI bk, nI se, nI wy, nI st, nI wn, nI wp, hit, mis, zm_em rx, zm_em ln, zm_eo eg, zm_em so, zm_em rc, zm_em iu, zm_em il, zm_em cu, zm_em cl, zm_em li, zm_em fi) (nI n) (nI q) (nI b) := by
  have H' := H
  obtain ⟨h1, h2, h3, h4, G⟩ := H
  have l4 := G.1 n hn
  unfold wpX_prepareState
  try dsimp only
  refine zx_nodeT hn h1.2 (br_f (by decide) (br_f (nI_pos (by omega)) ⟨vp_in_nI (by omega) (by decide), ?_⟩))
  rw [nI_clamp (show n < 2 ^ 31 by omega), zm_em_a]
  refine br_f (nI_nlt hq (by omega)) (zx_blockT hb h2.2 (br_f (by decide) ?_))
  refine zx_refresh h1.1 ⟨h1.2, h2.2⟩ h4.2 h3 hso G hst A (fun rc iu il cu cl A' => ?_)
  refine ⟨vp_in_nI (by omega) (by decide), ?_⟩
  have hrb := A'.1 n hn
  by_cases hR : zp_R nd eg n
  · have hr := (A'.2.1 n hn).mpr hR
    refine br_f (nI_ne0 (by omega) (by omega)) ?_
    refine zx_load (st := 0) ⟨h1.2, h2.2⟩ h4.2 h3 hso hn (by omega) (fun p hp => G.2.1 n hn p (by omega)) A'.2.2.2.2 (fun u l hu hl => ?_)
    exact K0 hR rc iu il u l A' (fun b hb => ⟨(hu b hb).trans (zx_A_v H' A' hn hq hb).1, (hl b hb).trans (zx_A_v H' A' hn hq hb).2.1⟩)
  · have hr : rc n = 0 := Decidable.byContradiction fun w => hR ((A'.2.1 n hn).mp w)
    exact br_t (by show nI (rc n) = 0; rw [hr]; exact nI_0) (K4 hR rc iu il cu cl A')
theorem zx_clsF {post : Int32 → SX → Prop} {v1 v2 : Int32} (H : zp_H nd bk se wy ln rx eg) (hb : zp_bad2 nd ln v1 v2) (K : post (-2) (nI nd, nI bk, nI se, nI wy, nI st, nI wn, nI wp, hit, mis, zm_em rx, zm_em ln, zm_eo eg, zm_em so, zm_em rc, zm_em iu, zm_em il, zm_em cu, zm_em cl, zm_em li, zm_em fi)) : wpX_classify post (nI nd, nI bk, nI se, nI wy, nI st, nI wn, nI wp, hit, mis, zm_em rx, zm_em ln, zm_eo eg, zm_em so, zm_em rc, zm_em iu, zm_em il, zm_em cu, zm_em cl, zm_em li, zm_em fi) v1 v2 := by
  obtain ⟨h1, h2, -, -, G⟩ := H
  unfold wpX_classify
  try dsimp only
  rcases hb with hb | ⟨n, hn, rfl, hb⟩
  · exact zx_nodeF h1.2 hb (br_t rfl K)
  · refine zx_nodeT hn h1.2 (br_f (by decide) ?_)
    have h4 := G.1 n hn
    rcases hb with hb | ⟨q, hq, rfl, hb⟩
    · exact br_t hb K
    · refine br_f (nI_pos hq) ⟨vp_in_nI (by omega) (by decide), ?_⟩
      rw [nI_clamp (show n < 2 ^ 31 by omega), zm_em_a]
      exact br_f (nI_nlt hb hq) K
theorem zx_clsT {post : Int32 → SX → Prop} {n q : Nat} (H : zp_H nd bk se wy ln rx eg) (hso : ∀ b, b < 8 → so b = b % se) (hst : st ≤ 1) (A : st = 0 → zx_A nd bk se wy ln rx eg rc iu il) (hn : n < nd) (hq : q < ln n)
    (K : ∀ rc iu il cu cl : Nat → Nat, zx_A nd bk se wy ln rx eg rc iu il → post (zp_cls nd bk se wy ln rx eg n q) (nI nd, nI bk, nI se, nI wy, nI 0, nI wn, nI wp, hit, mis, zm_em rx, zm_em ln, zm_eo eg, zm_em so, zm_em rc, zm_em iu, zm_em il, zm_em cu, zm_em cl, zm_em li, zm_em fi)) : wpX_classify post (nI nd, nI bk, nI se, nI wy, nI st, nI wn, nI wp, hit, mis, zm_em rx, zm_em ln, zm_eo eg, zm_em so, zm_em rc, zm_em iu, zm_em il, zm_em cu, zm_em cl, zm_em li, zm_em fi) (nI n) (nI q) := by
  have H' := H
  obtain ⟨h1, h2, h3, h4, G⟩ := H
  have l4 := G.1 n hn
  have hc := G.2.1 n hn q hq
  unfold wpX_classify
  try dsimp only
  refine zx_nodeT hn h1.2 (br_f (by decide) (br_f (nI_pos (by omega)) ⟨vp_in_nI (by omega) (by decide), ?_⟩))
  rw [nI_clamp (show n < 2 ^ 31 by omega), zm_em_a]
  refine br_t (nI_lt hq (by omega)) ?_
  refine zx_refresh h1.1 ⟨h1.2, h2.2⟩ h4.2 h3 hso G hst A (fun rc iu il cu cl A' => ?_)
  refine ⟨vp_in_nI (by omega) (by decide), ?_⟩
  have hrb := A'.1 n hn
  by_cases hR : zp_R nd eg n
  · have hr := (A'.2.1 n hn).mpr hR
    refine br_f (nI_ne0 (by omega) (by omega)) ?_
    refine zx_load (st := 0) ⟨h1.2, h2.2⟩ h4.2 h3 hso hn (by omega) (fun p hp => G.2.1 n hn p (by omega)) A'.2.2.2.2 (fun u l hu hl => ?_)
    obtain ⟨e1, e2, b1, b2⟩ := zx_A_v H' A' hn (Nat.le_of_lt hq) hc
    have f1 := (hu _ hc).trans e1
    have f2 := (hl _ hc).trans e2
    simp (disch := omega) only [forall_eq, zm_em_a, zm_eo_a, zm_eL_a, zm_oi_s, zm_oi_n, zm_em_u, zm_em_u0, zm_em_b0, zm_em_b1, zm_eo_u, zm_eo_un, zm_eL_u, zm_eL_u0, nI_clamp, nI_1, nI_add, zs_m2, zs_m4, zs_m5, zs_m8, zs_d2, zs_s1, zs_in, zs_leT, zs_leF, zs_ltT, zs_ltF, zs_eqT, zs_eqF, zs_m1e, zs_oe, zs_0lt, zs_e0T, zs_e0F, zs_2n, true_implies, forall_const, not_true_eq_false, not_false_eq_true, false_implies, and_true, true_and, implies_true, zs_l1T, zs_l1F, zs_l2T, zs_l2F, zs_l4T, zs_l4F, zs_l8T, zs_l8F, zs_l16T, zs_l16F, zs_l32T, zs_l32F, zs_l64T, zs_l64F, zs_l320T, zs_l320F, zs_l513T, zs_l513F, zs_l2561T, zs_l2561F, zs_t4T, zs_t4F, zs_e1T, zs_e1F, zs_nl0T, zs_nl0F, zs_nb, pk_rem, lN_1, zs_lleT, zs_lleF, zs_le0T, zs_le0F]
    by_cases a1 : zp_vU nd bk se wy ln rx eg n q (rx (n * 4 + q)) < wy
    · have k := K rc iu il u l A'
      rw [zp_cls_1 hR a1] at k
      exact br_f (by rw [f1]; exact nI_ge a1 (by omega)) k
    · refine br_t (by rw [f1]; exact nI_le (by omega) (by omega)) ?_
      by_cases a2 : zp_vL nd bk se wy ln rx eg n q (rx (n * 4 + q)) = wy
      · have k := K rc iu il u l A'
        rw [zp_cls_2 hR a1 a2] at k
        exact br_t (by rw [f2, a2]) k
      · have k := K rc iu il u l A'
        rw [zp_cls_3 hR a1 a2] at k
        exact br_f (by rw [f2, nI_eq (by omega) (by omega)]; exact a2) k
  · have hr : rc n = 0 := Decidable.byContradiction fun w => hR ((A'.2.1 n hn).mp w)
    have k := K rc iu il cu cl A'
    rw [zp_cls_n hR] at k
    exact br_t (by show nI (rc n) = 0; rw [hr]; exact nI_0) k
theorem zx_c39 {post : Int32 → SX → Prop} {J28 : Int32 → Int32 → Int32 → Int32 → Int32 → Int32 → Int32 → Int32 → Int32 → Int32 → Int32 → (Nat → Int32) → (Nat → Int32) → (Nat → Int32) → (Nat → Int32) → (Nat → Int32) → (Nat → Int32) → (Nat → Int32) → (Nat → Int32) → (Nat → Int32) → (Nat → Int32) → (Nat → Int32) → Prop} {kv t : Int32} {n : Nat} (H : zp_H nd bk se wy ln rx eg) (hso : ∀ b, b < 8 → so b = b % se) (hn : n < nd)
    (K : ∀ st (rc iu il cu cl : Nat → Nat), st ≤ 1 → (st = 0 → zx_A nd bk se wy ln rx eg rc iu il) → J28 (zp_ci (zp_cls nd bk se wy ln rx eg) kv n t (ln n)) (nI (n + 1)) (nI nd) (nI bk) (nI se) (nI wy) (nI st) (nI wn) (nI wp) hit mis (zm_em rx) (zm_em ln) (zm_eo eg) (zm_em so) (zm_em rc) (zm_em iu) (zm_em il) (zm_em cu) (zm_em cl) (zm_em li) (zm_em fi)) : ∀ f p x st (rc iu il cu cl : Nat → Nat), p ≤ ln n → ln n - p < f → x = zp_ci (zp_cls nd bk se wy ln rx eg) kv n t p → st ≤ 1 → (st = 0 → zx_A nd bk se wy ln rx eg rc iu il) →
      wX_count_39 post J28 kv (nI n) f x (nI p) (nI nd) (nI bk) (nI se) (nI wy) (nI st) (nI wn) (nI wp) hit mis (zm_em rx) (zm_em ln) (zm_eo eg) (zm_em so) (zm_em rc) (zm_em iu) (zm_em il) (zm_em cu) (zm_em cl) (zm_em li) (zm_em fi) := by
  intro f
  induction f with
  | zero => intro p _ _ _ _ _ _ _ _ h; omega
  | succ f ih =>
    intro p x st rc iu il cu cl hp hf hx hst A
    have h8 := H.1
    have l4 := H.2.2.2.2.1 n hn
    rcases Nat.lt_or_ge p (ln n) with h | h
    · simp (disch := omega) only [wX_count_39, forall_eq, zm_em_a, zm_eo_a, zm_eL_a, zm_oi_s, zm_oi_n, zm_em_u, zm_em_u0, zm_em_b0, zm_em_b1, zm_eo_u, zm_eo_un, zm_eL_u, zm_eL_u0, nI_clamp, nI_1, nI_add, zs_m2, zs_m4, zs_m5, zs_m8, zs_d2, zs_s1, zs_in, zs_leT, zs_leF, zs_ltT, zs_ltF, zs_eqT, zs_eqF, zs_m1e, zs_oe, zs_0lt, zs_e0T, zs_e0F, zs_2n, true_implies, forall_const, not_true_eq_false, not_false_eq_true, false_implies, and_true, true_and, implies_true, zs_l1T, zs_l1F, zs_l2T, zs_l2F, zs_l4T, zs_l4F, zs_l8T, zs_l8F, zs_l16T, zs_l16F, zs_l32T, zs_l32F, zs_l64T, zs_l64F, zs_l320T, zs_l320F, zs_l513T, zs_l513F, zs_l2561T, zs_l2561F, zs_t4T, zs_t4F, zs_e1T, zs_e1F, zs_nl0T, zs_nl0F, zs_nb, pk_rem, lN_1, zs_lleT, zs_lleF, zs_le0T, zs_le0F]
      refine zx_clsT H hso hst A hn h (fun rc iu il cu cl A' => ?_)
      by_cases e : zp_cls nd bk se wy ln rx eg n p = kv
      · exact br_t e (ih (p + 1) _ 0 rc iu il cu cl (by omega) (by omega) (by rw [zp_ci, if_pos e, hx]) (by omega) (fun _ => A'))
      · exact br_f e (ih (p + 1) _ 0 rc iu il cu cl (by omega) (by omega) (by rw [zp_ci, if_neg e, hx]) (by omega) (fun _ => A'))
    · have e : p = ln n := by omega
      subst e
      simp (disch := omega) only [wX_count_39, hx, forall_eq, zm_em_a, zm_eo_a, zm_eL_a, zm_oi_s, zm_oi_n, zm_em_u, zm_em_u0, zm_em_b0, zm_em_b1, zm_eo_u, zm_eo_un, zm_eL_u, zm_eL_u0, nI_clamp, nI_1, nI_add, zs_m2, zs_m4, zs_m5, zs_m8, zs_d2, zs_s1, zs_in, zs_leT, zs_leF, zs_ltT, zs_ltF, zs_eqT, zs_eqF, zs_m1e, zs_oe, zs_0lt, zs_e0T, zs_e0F, zs_2n, true_implies, forall_const, not_true_eq_false, not_false_eq_true, false_implies, and_true, true_and, implies_true, zs_l1T, zs_l1F, zs_l2T, zs_l2F, zs_l4T, zs_l4F, zs_l8T, zs_l8F, zs_l16T, zs_l16F, zs_l32T, zs_l32F, zs_l64T, zs_l64F, zs_l320T, zs_l320F, zs_l513T, zs_l513F, zs_l2561T, zs_l2561F, zs_t4T, zs_t4F, zs_e1T, zs_e1F, zs_nl0T, zs_nl0F, zs_nb, pk_rem, lN_1, zs_lleT, zs_lleF, zs_le0T, zs_le0F]
      exact K st rc iu il cu cl hst A
theorem zx_c28 {post : Int32 → SX → Prop} {kv : Int32} (H : zp_H nd bk se wy ln rx eg) (hso : ∀ b, b < 8 → so b = b % se)
    (K : ∀ st (rc iu il cu cl : Nat → Nat), st ≤ 1 → (st = 0 → zx_A nd bk se wy ln rx eg rc iu il) → post (zp_co (zp_cls nd bk se wy ln rx eg) kv ln nd) (nI nd, nI bk, nI se, nI wy, nI st, nI wn, nI wp, hit, mis, zm_em rx, zm_em ln, zm_eo eg, zm_em so, zm_em rc, zm_em iu, zm_em il, zm_em cu, zm_em cl, zm_em li, zm_em fi)) : ∀ f n st (rc iu il cu cl : Nat → Nat), n ≤ nd → nd - n < f → st ≤ 1 → (st = 0 → zx_A nd bk se wy ln rx eg rc iu il) →
      wX_count_28 post kv f (zp_co (zp_cls nd bk se wy ln rx eg) kv ln n) (nI n) (nI nd) (nI bk) (nI se) (nI wy) (nI st) (nI wn) (nI wp) hit mis (zm_em rx) (zm_em ln) (zm_eo eg) (zm_em so) (zm_em rc) (zm_em iu) (zm_em il) (zm_em cu) (zm_em cl) (zm_em li) (zm_em fi) := by
  intro f
  induction f with
  | zero => intro n _ _ _ _ _ _ _ h; omega
  | succ f ih =>
    intro n st rc iu il cu cl hn hf hst A
    have h8 := H.1
    rcases Nat.lt_or_ge n nd with h | h
    · have l4 := H.2.2.2.2.1 n h
      simp (disch := omega) only [wX_count_28, forall_eq, zm_em_a, zm_eo_a, zm_eL_a, zm_oi_s, zm_oi_n, zm_em_u, zm_em_u0, zm_em_b0, zm_em_b1, zm_eo_u, zm_eo_un, zm_eL_u, zm_eL_u0, nI_clamp, nI_1, nI_add, zs_m2, zs_m4, zs_m5, zs_m8, zs_d2, zs_s1, zs_in, zs_leT, zs_leF, zs_ltT, zs_ltF, zs_eqT, zs_eqF, zs_m1e, zs_oe, zs_0lt, zs_e0T, zs_e0F, zs_2n, true_implies, forall_const, not_true_eq_false, not_false_eq_true, false_implies, and_true, true_and, implies_true, zs_l1T, zs_l1F, zs_l2T, zs_l2F, zs_l4T, zs_l4F, zs_l8T, zs_l8F, zs_l16T, zs_l16F, zs_l32T, zs_l32F, zs_l64T, zs_l64F, zs_l320T, zs_l320F, zs_l513T, zs_l513F, zs_l2561T, zs_l2561F, zs_t4T, zs_t4F, zs_e1T, zs_e1F, zs_nl0T, zs_nl0F, zs_nb, pk_rem, lN_1, zs_lleT, zs_lleF, zs_le0T, zs_le0F]
      exact ⟨5, zx_c39 H hso h (fun st rc iu il cu cl hst A => ih (n + 1) st rc iu il cu cl (by omega) (by omega) hst A) 5 0 _ st rc iu il cu cl (by omega) (by omega) rfl hst A⟩
    · have e : n = nd := by omega
      subst e
      simp (disch := omega) only [wX_count_28, forall_eq, zm_em_a, zm_eo_a, zm_eL_a, zm_oi_s, zm_oi_n, zm_em_u, zm_em_u0, zm_em_b0, zm_em_b1, zm_eo_u, zm_eo_un, zm_eL_u, zm_eL_u0, nI_clamp, nI_1, nI_add, zs_m2, zs_m4, zs_m5, zs_m8, zs_d2, zs_s1, zs_in, zs_leT, zs_leF, zs_ltT, zs_ltF, zs_eqT, zs_eqF, zs_m1e, zs_oe, zs_0lt, zs_e0T, zs_e0F, zs_2n, true_implies, forall_const, not_true_eq_false, not_false_eq_true, false_implies, and_true, true_and, implies_true, zs_l1T, zs_l1F, zs_l2T, zs_l2F, zs_l4T, zs_l4F, zs_l8T, zs_l8F, zs_l16T, zs_l16F, zs_l32T, zs_l32F, zs_l64T, zs_l64F, zs_l320T, zs_l320F, zs_l513T, zs_l513F, zs_l2561T, zs_l2561F, zs_t4T, zs_t4F, zs_e1T, zs_e1F, zs_nl0T, zs_nl0F, zs_nb, pk_rem, lN_1, zs_lleT, zs_lleF, zs_le0T, zs_le0F]
      exact K st rc iu il cu cl hst A
theorem zx_count {post : Int32 → SX → Prop} {kv : Int32} (H : zp_H nd bk se wy ln rx eg) (hso : ∀ b, b < 8 → so b = b % se) (hst : st ≤ 1) (A : st = 0 → zx_A nd bk se wy ln rx eg rc iu il) (hk : kv = 1 ∨ kv = 2 ∨ kv = 3 ∨ kv = -4)
    (K : ∀ st (rc iu il cu cl : Nat → Nat), st ≤ 1 → (st = 0 → zx_A nd bk se wy ln rx eg rc iu il) → post (zp_co (zp_cls nd bk se wy ln rx eg) kv ln nd) (nI nd, nI bk, nI se, nI wy, nI st, nI wn, nI wp, hit, mis, zm_em rx, zm_em ln, zm_eo eg, zm_em so, zm_em rc, zm_em iu, zm_em il, zm_em cu, zm_em cl, zm_em li, zm_em fi)) : wpX_count post (nI nd, nI bk, nI se, nI wy, nI st, nI wn, nI wp, hit, mis, zm_em rx, zm_em ln, zm_eo eg, zm_em so, zm_em rc, zm_em iu, zm_em il, zm_em cu, zm_em cl, zm_em li, zm_em fi) kv := by
  have h8 := H.1
  have key : ∃ n28 : Nat, wX_count_28 post kv n28 0 0 (nI nd) (nI bk) (nI se) (nI wy) (nI st) (nI wn) (nI wp) hit mis (zm_em rx) (zm_em ln) (zm_eo eg) (zm_em so) (zm_em rc) (zm_em iu) (zm_em il) (zm_em cu) (zm_em cl) (zm_em li) (zm_em fi) := ⟨9, zx_c28 H hso K 9 0 st rc iu il cu cl (by omega) (by omega) hst A⟩
  rcases hk with rfl | rfl | rfl | rfl
  · exact br_t rfl key
  · exact br_f (by decide) (br_t rfl key)
  · exact br_f (by decide) (br_f (by decide) (br_t rfl key))
  · exact br_f (by decide) (br_f (by decide) (br_f (by decide) (br_t rfl key)))
end
end
section
/-! the reference: restart, len, findReached -/
/-- the reference's references: full from the front -/
def zv_ry (nd : Nat) (ln rx : Nat → Nat) (ry : Nat → Option Nat) : Prop := ∀ n, n < nd → ∀ p, p < 4 → ry (n * 4 + p) = if p < ln n then some (rx (n * 4 + p)) else none
section
variable {nd bk se wy wn wp ck : Nat} {hit mis : Int32} {rr up lw lu : Nat → Nat} {ry eg : Nat → Option Nat}
variable {ln rx : Nat → Nat}
theorem zv_rs {post : SY → Prop} (K : ∀ f : Nat → Nat, (∀ b, b < 8 → f b = 0) → post (nI nd, nI bk, nI se, nI wy, nI wn, nI wp, hit, mis, lN ck, zm_eo ry, zm_eo eg, zm_em rr, zm_em up, zm_em lw, zm_eL f)) : ∀ n i (f : Nat → Nat), i ≤ 8 → 8 - i < n → (∀ s, s < i → f s = 0) → wY_restart_27 post (nI nd) (nI bk) (nI se) (nI wy) (nI wn) (nI wp) hit mis (lN ck) n (nI i) (zm_eo ry) (zm_eo eg) (zm_em rr) (zm_em up) (zm_em lw) (zm_eL f) := by
  intro n
  induction n with
  | zero => intro i f _ h; omega
  | succ n ih =>
    intro i f hi hn hf
    rcases Nat.lt_or_ge i 8 with h | h
    · simp (disch := omega) only [wY_restart_27, forall_eq, zm_em_a, zm_eo_a, zm_eL_a, zm_oi_s, zm_oi_n, zm_em_u, zm_em_u0, zm_em_b0, zm_em_b1, zm_eo_u, zm_eo_un, zm_eL_u, zm_eL_u0, nI_clamp, nI_1, nI_add, zs_m2, zs_m4, zs_m5, zs_m8, zs_d2, zs_s1, zs_in, zs_leT, zs_leF, zs_ltT, zs_ltF, zs_eqT, zs_eqF, zs_m1e, zs_oe, zs_0lt, zs_e0T, zs_e0F, zs_2n, true_implies, forall_const, not_true_eq_false, not_false_eq_true, false_implies, and_true, true_and, implies_true, zs_l1T, zs_l1F, zs_l2T, zs_l2F, zs_l4T, zs_l4F, zs_l8T, zs_l8F, zs_l16T, zs_l16F, zs_l32T, zs_l32F, zs_l64T, zs_l64F, zs_l320T, zs_l320F, zs_l513T, zs_l513F, zs_l2561T, zs_l2561F, zs_t4T, zs_t4F, zs_e1T, zs_e1F, zs_nl0T, zs_nl0F, zs_nb, pk_rem, lN_1, zs_lleT, zs_lleF, zs_le0T, zs_le0F]
      exact ih (i + 1) _ (by omega) (by omega) (zm_upP (P := fun _ x => x = 0) hf rfl)
    · have e : i = 8 := by omega
      subst e
      simp (disch := omega) only [wY_restart_27, forall_eq, zm_em_a, zm_eo_a, zm_eL_a, zm_oi_s, zm_oi_n, zm_em_u, zm_em_u0, zm_em_b0, zm_em_b1, zm_eo_u, zm_eo_un, zm_eL_u, zm_eL_u0, nI_clamp, nI_1, nI_add, zs_m2, zs_m4, zs_m5, zs_m8, zs_d2, zs_s1, zs_in, zs_leT, zs_leF, zs_ltT, zs_ltF, zs_eqT, zs_eqF, zs_m1e, zs_oe, zs_0lt, zs_e0T, zs_e0F, zs_2n, true_implies, forall_const, not_true_eq_false, not_false_eq_true, false_implies, and_true, true_and, implies_true, zs_l1T, zs_l1F, zs_l2T, zs_l2F, zs_l4T, zs_l4F, zs_l8T, zs_l8F, zs_l16T, zs_l16F, zs_l32T, zs_l32F, zs_l64T, zs_l64F, zs_l320T, zs_l320F, zs_l513T, zs_l513F, zs_l2561T, zs_l2561F, zs_t4T, zs_t4F, zs_e1T, zs_e1F, zs_nl0T, zs_nl0F, zs_nb, pk_rem, lN_1, zs_lleT, zs_lleF, zs_le0T, zs_le0F]
      exact K f hf
theorem zv_restart {post : SY → Prop} (K : ∀ f : Nat → Nat, (∀ b, b < 8 → f b = 0) → post (nI nd, nI bk, nI se, nI wy, nI 0, nI 0, 0, 0, lN 0, zm_eo ry, zm_eo eg, zm_em rr, zm_em up, zm_em lw, zm_eL f)) : wpY_restart post (nI nd, nI bk, nI se, nI wy, nI wn, nI wp, hit, mis, lN ck, zm_eo ry, zm_eo eg, zm_em rr, zm_em up, zm_em lw, zm_eL lu) :=
  ⟨9, zv_rs (wn := 0) (wp := 0) (hit := 0) (mis := 0) (ck := 0) K 9 0 lu (by omega) (by omega) (fun s hs => absurd hs (by omega))⟩
theorem zv_nodeT {post : Int32 → Prop} {n : Nat} (hn : n < nd) (h8 : nd ≤ 8) (K : post 0) : wpY_badNode post (nI nd, nI bk, nI se, nI wy, nI wn, nI wp, hit, mis, lN ck, zm_eo ry, zm_eo eg, zm_em rr, zm_em up, zm_em lw, zm_eL lu) (nI n) :=
  br_f (nI_pos (by omega)) (br_t (nI_lt hn (by omega)) K)
theorem zs_nlt {n : Nat} {v : Int32} (h : nI n ≤ v) : ¬ v < nI n := by
  rw [Int32.le_iff_toInt_le] at h
  rw [Int32.lt_iff_toInt_lt]
  omega
theorem zv_nodeF {post : Int32 → Prop} {v : Int32} (h8 : nd ≤ 8) (h : v < 0 ∨ nI nd ≤ v) (K : post 1) : wpY_badNode post (nI nd, nI bk, nI se, nI wy, nI wn, nI wp, hit, mis, lN ck, zm_eo ry, zm_eo eg, zm_em rr, zm_em up, zm_em lw, zm_eL lu) v := by
  rcases h with h | h
  · exact br_t h K
  · exact br_f (zs_hi (by omega) h) (br_f (zs_nlt h) K)
theorem zv_l4 {post : Int32 → Prop} {n : Nat} (h8 : nd ≤ 8 ∧ bk ≤ 8) (hn : n < nd) (hl : ln n ≤ 4) (hr : ∀ p, p < ln n → rx (n * 4 + p) < bk) (hy : zv_ry nd ln rx ry) (K : post (nI (ln n))) : ∀ f p c, p ≤ 4 → 4 - p < f → (p ≤ ln n ∧ c = p ∨ ln n ≤ p ∧ c = ln n) → wY_len_4 post (nI n) (nI nd) (nI bk) (nI se) (nI wy) (nI wn) (nI wp) hit mis (lN ck) (zm_eo ry) (zm_eo eg) (zm_em rr) (zm_em up) (zm_em lw) (zm_eL lu) f (nI c) (nI p) := by
  intro f
  induction f with
  | zero => intro p c _ h; omega
  | succ f ih =>
    intro p c hp hf hc
    rcases Nat.lt_or_ge p 4 with h | h
    · have e := hy n hn p h
      rcases Nat.lt_or_ge p (ln n) with q | q
      · have hb := hr p q
        rw [if_pos q] at e
        simp (disch := omega) only [wY_len_4, e, forall_eq, zm_em_a, zm_eo_a, zm_eL_a, zm_oi_s, zm_oi_n, zm_em_u, zm_em_u0, zm_em_b0, zm_em_b1, zm_eo_u, zm_eo_un, zm_eL_u, zm_eL_u0, nI_clamp, nI_1, nI_add, zs_m2, zs_m4, zs_m5, zs_m8, zs_d2, zs_s1, zs_in, zs_leT, zs_leF, zs_ltT, zs_ltF, zs_eqT, zs_eqF, zs_m1e, zs_oe, zs_0lt, zs_e0T, zs_e0F, zs_2n, true_implies, forall_const, not_true_eq_false, not_false_eq_true, false_implies, and_true, true_and, implies_true, zs_l1T, zs_l1F, zs_l2T, zs_l2F, zs_l4T, zs_l4F, zs_l8T, zs_l8F, zs_l16T, zs_l16F, zs_l32T, zs_l32F, zs_l64T, zs_l64F, zs_l320T, zs_l320F, zs_l513T, zs_l513F, zs_l2561T, zs_l2561F, zs_t4T, zs_t4F, zs_e1T, zs_e1F, zs_nl0T, zs_nl0F, zs_nb, pk_rem, lN_1, zs_lleT, zs_lleF, zs_le0T, zs_le0F]
        exact ih (p + 1) (c + 1) (by omega) (by omega) (by omega)
      · rw [if_neg (by omega)] at e
        simp (disch := omega) only [wY_len_4, e, forall_eq, zm_em_a, zm_eo_a, zm_eL_a, zm_oi_s, zm_oi_n, zm_em_u, zm_em_u0, zm_em_b0, zm_em_b1, zm_eo_u, zm_eo_un, zm_eL_u, zm_eL_u0, nI_clamp, nI_1, nI_add, zs_m2, zs_m4, zs_m5, zs_m8, zs_d2, zs_s1, zs_in, zs_leT, zs_leF, zs_ltT, zs_ltF, zs_eqT, zs_eqF, zs_m1e, zs_oe, zs_0lt, zs_e0T, zs_e0F, zs_2n, true_implies, forall_const, not_true_eq_false, not_false_eq_true, false_implies, and_true, true_and, implies_true, zs_l1T, zs_l1F, zs_l2T, zs_l2F, zs_l4T, zs_l4F, zs_l8T, zs_l8F, zs_l16T, zs_l16F, zs_l32T, zs_l32F, zs_l64T, zs_l64F, zs_l320T, zs_l320F, zs_l513T, zs_l513F, zs_l2561T, zs_l2561F, zs_t4T, zs_t4F, zs_e1T, zs_e1F, zs_nl0T, zs_nl0F, zs_nb, pk_rem, lN_1, zs_lleT, zs_lleF, zs_le0T, zs_le0F]
        exact ih (p + 1) c (by omega) (by omega) (by omega)
    · have e : p = 4 := by omega
      have e2 : c = ln n := by omega
      subst e e2
      simp (disch := omega) only [wY_len_4, forall_eq, zm_em_a, zm_eo_a, zm_eL_a, zm_oi_s, zm_oi_n, zm_em_u, zm_em_u0, zm_em_b0, zm_em_b1, zm_eo_u, zm_eo_un, zm_eL_u, zm_eL_u0, nI_clamp, nI_1, nI_add, zs_m2, zs_m4, zs_m5, zs_m8, zs_d2, zs_s1, zs_in, zs_leT, zs_leF, zs_ltT, zs_ltF, zs_eqT, zs_eqF, zs_m1e, zs_oe, zs_0lt, zs_e0T, zs_e0F, zs_2n, true_implies, forall_const, not_true_eq_false, not_false_eq_true, false_implies, and_true, true_and, implies_true, zs_l1T, zs_l1F, zs_l2T, zs_l2F, zs_l4T, zs_l4F, zs_l8T, zs_l8F, zs_l16T, zs_l16F, zs_l32T, zs_l32F, zs_l64T, zs_l64F, zs_l320T, zs_l320F, zs_l513T, zs_l513F, zs_l2561T, zs_l2561F, zs_t4T, zs_t4F, zs_e1T, zs_e1F, zs_nl0T, zs_nl0F, zs_nb, pk_rem, lN_1, zs_lleT, zs_lleF, zs_le0T, zs_le0F]
      exact K
theorem zv_len {post : Int32 → Prop} {n : Nat} (h8 : nd ≤ 8 ∧ bk ≤ 8) (G : zp_G nd bk ln rx eg) (hy : zv_ry nd ln rx ry) (hn : n < nd) (K : post (nI (ln n))) : wpY_len post (nI nd, nI bk, nI se, nI wy, nI wn, nI wp, hit, mis, lN ck, zm_eo ry, zm_eo eg, zm_em rr, zm_em up, zm_em lw, zm_eL lu) (nI n) :=
  ⟨5, zv_l4 h8 hn (G.1 n hn) (G.2.1 n hn) hy K 5 0 0 (by omega) (by omega) (Or.inl ⟨Nat.zero_le _, rfl⟩)⟩
theorem zv_f43 {post : SY → Prop} {J33 : Int32 → (Nat → Int32) → (Nat → Int32) → (Nat → Int32) → (Nat → Int32) → (Nat → Int32) → (Nat → Int64) → Prop} {k : Nat} (h8 : nd ≤ 8) (hE : ∀ n, n < nd → ∀ s, s < 2 → ∀ t, eg (n * 2 + s) = some t → t < nd)
    (K : ∀ r : Nat → Nat, zr_B nd eg r → zr_O nd eg (k + 1) r → J33 (nI (k + 1)) (zm_eo ry) (zm_eo eg) (zm_em r) (zm_em up) (zm_em lw) (zm_eL lu)) : ∀ f i (r : Nat → Nat), i ≤ nd * 2 → nd * 2 - i < f → zr_B nd eg r → zr_J nd eg k i r → wY_findReached_43 post J33 (nI k) (nI nd) (nI bk) (nI se) (nI wy) (nI wn) (nI wp) hit mis (lN ck) f (nI i) (zm_eo ry) (zm_eo eg) (zm_em r) (zm_em up) (zm_em lw) (zm_eL lu) := by
  intro f
  induction f with
  | zero => intro i r _ h; omega
  | succ f ih =>
    intro i r hi hf B J
    rcases Nat.lt_or_ge i (nd * 2) with h | h
    · obtain ⟨n, s, hs, rfl⟩ : ∃ n s, s < 2 ∧ i = n * 2 + s := ⟨i / 2, i % 2, by omega, by omega⟩
      have hn : n < nd := by omega
      have hd : (n * 2 + s) / 2 = n := by omega
      have hb := B.1 n hn
      by_cases hr : r n = 0
      · simp (disch := omega) only [wY_findReached_43, hd, forall_eq, zm_em_a, zm_eo_a, zm_eL_a, zm_oi_s, zm_oi_n, zm_em_u, zm_em_u0, zm_em_b0, zm_em_b1, zm_eo_u, zm_eo_un, zm_eL_u, zm_eL_u0, nI_clamp, nI_1, nI_add, zs_m2, zs_m4, zs_m5, zs_m8, zs_d2, zs_s1, zs_in, zs_leT, zs_leF, zs_ltT, zs_ltF, zs_eqT, zs_eqF, zs_m1e, zs_oe, zs_0lt, zs_e0T, zs_e0F, zs_2n, true_implies, forall_const, not_true_eq_false, not_false_eq_true, false_implies, and_true, true_and, implies_true, zs_l1T, zs_l1F, zs_l2T, zs_l2F, zs_l4T, zs_l4F, zs_l8T, zs_l8F, zs_l16T, zs_l16F, zs_l32T, zs_l32F, zs_l64T, zs_l64F, zs_l320T, zs_l320F, zs_l513T, zs_l513F, zs_l2561T, zs_l2561F, zs_t4T, zs_t4F, zs_e1T, zs_e1F, zs_nl0T, zs_nl0F, zs_nb, pk_rem, lN_1, zs_lleT, zs_lleF, zs_le0T, zs_le0F]
        exact ih (n * 2 + s + 1) r (by omega) (by omega) B (zr_skip hs J (Or.inl hr))
      · rcases e : eg (n * 2 + s) with _ | t
        · simp (disch := omega) only [wY_findReached_43, hd, e, forall_eq, zm_em_a, zm_eo_a, zm_eL_a, zm_oi_s, zm_oi_n, zm_em_u, zm_em_u0, zm_em_b0, zm_em_b1, zm_eo_u, zm_eo_un, zm_eL_u, zm_eL_u0, nI_clamp, nI_1, nI_add, zs_m2, zs_m4, zs_m5, zs_m8, zs_d2, zs_s1, zs_in, zs_leT, zs_leF, zs_ltT, zs_ltF, zs_eqT, zs_eqF, zs_m1e, zs_oe, zs_0lt, zs_e0T, zs_e0F, zs_2n, true_implies, forall_const, not_true_eq_false, not_false_eq_true, false_implies, and_true, true_and, implies_true, zs_l1T, zs_l1F, zs_l2T, zs_l2F, zs_l4T, zs_l4F, zs_l8T, zs_l8F, zs_l16T, zs_l16F, zs_l32T, zs_l32F, zs_l64T, zs_l64F, zs_l320T, zs_l320F, zs_l513T, zs_l513F, zs_l2561T, zs_l2561F, zs_t4T, zs_t4F, zs_e1T, zs_e1F, zs_nl0T, zs_nl0F, zs_nb, pk_rem, lN_1, zs_lleT, zs_lleF, zs_le0T, zs_le0F]
          exact ih (n * 2 + s + 1) r (by omega) (by omega) B (zr_skip hs J (Or.inr e))
        · have ht := hE n hn s hs t e
          simp (disch := omega) only [wY_findReached_43, hd, e, forall_eq, zm_em_a, zm_eo_a, zm_eL_a, zm_oi_s, zm_oi_n, zm_em_u, zm_em_u0, zm_em_b0, zm_em_b1, zm_eo_u, zm_eo_un, zm_eL_u, zm_eL_u0, nI_clamp, nI_1, nI_add, zs_m2, zs_m4, zs_m5, zs_m8, zs_d2, zs_s1, zs_in, zs_leT, zs_leF, zs_ltT, zs_ltF, zs_eqT, zs_eqF, zs_m1e, zs_oe, zs_0lt, zs_e0T, zs_e0F, zs_2n, true_implies, forall_const, not_true_eq_false, not_false_eq_true, false_implies, and_true, true_and, implies_true, zs_l1T, zs_l1F, zs_l2T, zs_l2F, zs_l4T, zs_l4F, zs_l8T, zs_l8F, zs_l16T, zs_l16F, zs_l32T, zs_l32F, zs_l64T, zs_l64F, zs_l320T, zs_l320F, zs_l513T, zs_l513F, zs_l2561T, zs_l2561F, zs_t4T, zs_t4F, zs_e1T, zs_e1F, zs_nl0T, zs_nl0F, zs_nb, pk_rem, lN_1, zs_lleT, zs_lleF, zs_le0T, zs_le0F]
          exact ih (n * 2 + s + 1) _ (by omega) (by omega) (zr_B_m hn hs hr e B) (zr_mark hn hs ht hr e J)
    · have e : i = nd * 2 := by omega
      subst e
      simp (disch := omega) only [wY_findReached_43, forall_eq, zm_em_a, zm_eo_a, zm_eL_a, zm_oi_s, zm_oi_n, zm_em_u, zm_em_u0, zm_em_b0, zm_em_b1, zm_eo_u, zm_eo_un, zm_eL_u, zm_eL_u0, nI_clamp, nI_1, nI_add, zs_m2, zs_m4, zs_m5, zs_m8, zs_d2, zs_s1, zs_in, zs_leT, zs_leF, zs_ltT, zs_ltF, zs_eqT, zs_eqF, zs_m1e, zs_oe, zs_0lt, zs_e0T, zs_e0F, zs_2n, true_implies, forall_const, not_true_eq_false, not_false_eq_true, false_implies, and_true, true_and, implies_true, zs_l1T, zs_l1F, zs_l2T, zs_l2F, zs_l4T, zs_l4F, zs_l8T, zs_l8F, zs_l16T, zs_l16F, zs_l32T, zs_l32F, zs_l64T, zs_l64F, zs_l320T, zs_l320F, zs_l513T, zs_l513F, zs_l2561T, zs_l2561F, zs_t4T, zs_t4F, zs_e1T, zs_e1F, zs_nl0T, zs_nl0F, zs_nb, pk_rem, lN_1, zs_lleT, zs_lleF, zs_le0T, zs_le0F]
      exact K r B (zr_JE J)
theorem zv_f33 {post : SY → Prop} (h8 : nd ≤ 8) (hE : ∀ n, n < nd → ∀ s, s < 2 → ∀ t, eg (n * 2 + s) = some t → t < nd)
    (K : ∀ r : Nat → Nat, zr_B nd eg r → zr_O nd eg nd r → post (nI nd, nI bk, nI se, nI wy, nI wn, nI wp, hit, mis, lN ck, zm_eo ry, zm_eo eg, zm_em r, zm_em up, zm_em lw, zm_eL lu)) : ∀ f k (r : Nat → Nat), k ≤ nd → nd - k < f → zr_B nd eg r → zr_O nd eg k r → wY_findReached_33 post (nI nd) (nI bk) (nI se) (nI wy) (nI wn) (nI wp) hit mis (lN ck) f (nI k) (zm_eo ry) (zm_eo eg) (zm_em r) (zm_em up) (zm_em lw) (zm_eL lu) := by
  intro f
  induction f with
  | zero => intro k r _ h; omega
  | succ f ih =>
    intro k r hk hf B O
    rcases Nat.lt_or_ge k nd with h | h
    · simp (disch := omega) only [wY_findReached_33, forall_eq, zm_em_a, zm_eo_a, zm_eL_a, zm_oi_s, zm_oi_n, zm_em_u, zm_em_u0, zm_em_b0, zm_em_b1, zm_eo_u, zm_eo_un, zm_eL_u, zm_eL_u0, nI_clamp, nI_1, nI_add, zs_m2, zs_m4, zs_m5, zs_m8, zs_d2, zs_s1, zs_in, zs_leT, zs_leF, zs_ltT, zs_ltF, zs_eqT, zs_eqF, zs_m1e, zs_oe, zs_0lt, zs_e0T, zs_e0F, zs_2n, true_implies, forall_const, not_true_eq_false, not_false_eq_true, false_implies, and_true, true_and, implies_true, zs_l1T, zs_l1F, zs_l2T, zs_l2F, zs_l4T, zs_l4F, zs_l8T, zs_l8F, zs_l16T, zs_l16F, zs_l32T, zs_l32F, zs_l64T, zs_l64F, zs_l320T, zs_l320F, zs_l513T, zs_l513F, zs_l2561T, zs_l2561F, zs_t4T, zs_t4F, zs_e1T, zs_e1F, zs_nl0T, zs_nl0F, zs_nb, pk_rem, lN_1, zs_lleT, zs_lleF, zs_le0T, zs_le0F]
      exact ⟨17, zv_f43 (k := k) h8 hE (fun r' B' O' => ih (k + 1) r' (by omega) (by omega) B' O') 17 0 r (by omega) (by omega) B (zr_J0 O)⟩
    · have e : k = nd := by omega
      subst e
      simp (disch := omega) only [wY_findReached_33, forall_eq, zm_em_a, zm_eo_a, zm_eL_a, zm_oi_s, zm_oi_n, zm_em_u, zm_em_u0, zm_em_b0, zm_em_b1, zm_eo_u, zm_eo_un, zm_eL_u, zm_eL_u0, nI_clamp, nI_1, nI_add, zs_m2, zs_m4, zs_m5, zs_m8, zs_d2, zs_s1, zs_in, zs_leT, zs_leF, zs_ltT, zs_ltF, zs_eqT, zs_eqF, zs_m1e, zs_oe, zs_0lt, zs_e0T, zs_e0F, zs_2n, true_implies, forall_const, not_true_eq_false, not_false_eq_true, false_implies, and_true, true_and, implies_true, zs_l1T, zs_l1F, zs_l2T, zs_l2F, zs_l4T, zs_l4F, zs_l8T, zs_l8F, zs_l16T, zs_l16F, zs_l32T, zs_l32F, zs_l64T, zs_l64F, zs_l320T, zs_l320F, zs_l513T, zs_l513F, zs_l2561T, zs_l2561F, zs_t4T, zs_t4F, zs_e1T, zs_e1F, zs_nl0T, zs_nl0F, zs_nb, pk_rem, lN_1, zs_lleT, zs_lleF, zs_le0T, zs_le0F]
      exact K r B O
theorem zv_f2 {post : SY → Prop} (h1 : 1 ≤ nd) (h8 : nd ≤ 8) (hE : ∀ n, n < nd → ∀ s, s < 2 → ∀ t, eg (n * 2 + s) = some t → t < nd)
    (K : ∀ r : Nat → Nat, zr_B nd eg r → zr_O nd eg nd r → post (nI nd, nI bk, nI se, nI wy, nI wn, nI wp, hit, mis, lN ck, zm_eo ry, zm_eo eg, zm_em r, zm_em up, zm_em lw, zm_eL lu)) : ∀ f i (r : Nat → Nat), i ≤ nd → nd - i < f → (∀ s, s < i → r s = if s = 0 then 1 else 0) → wY_findReached_2 post (nI nd) (nI bk) (nI se) (nI wy) (nI wn) (nI wp) hit mis (lN ck) f (nI i) (zm_eo ry) (zm_eo eg) (zm_em r) (zm_em up) (zm_em lw) (zm_eL lu) := by
  intro f
  induction f with
  | zero => intro i r _ h; omega
  | succ f ih =>
    intro i r hi hf hr
    rcases Nat.lt_or_ge i nd with h | h
    · by_cases e : i = 0
      · subst e
        simp (disch := omega) only [wY_findReached_2, forall_eq, zm_em_a, zm_eo_a, zm_eL_a, zm_oi_s, zm_oi_n, zm_em_u, zm_em_u0, zm_em_b0, zm_em_b1, zm_eo_u, zm_eo_un, zm_eL_u, zm_eL_u0, nI_clamp, nI_1, nI_add, zs_m2, zs_m4, zs_m5, zs_m8, zs_d2, zs_s1, zs_in, zs_leT, zs_leF, zs_ltT, zs_ltF, zs_eqT, zs_eqF, zs_m1e, zs_oe, zs_0lt, zs_e0T, zs_e0F, zs_2n, true_implies, forall_const, not_true_eq_false, not_false_eq_true, false_implies, and_true, true_and, implies_true, zs_l1T, zs_l1F, zs_l2T, zs_l2F, zs_l4T, zs_l4F, zs_l8T, zs_l8F, zs_l16T, zs_l16F, zs_l32T, zs_l32F, zs_l64T, zs_l64F, zs_l320T, zs_l320F, zs_l513T, zs_l513F, zs_l2561T, zs_l2561F, zs_t4T, zs_t4F, zs_e1T, zs_e1F, zs_nl0T, zs_nl0F, zs_nb, pk_rem, lN_1, zs_lleT, zs_lleF, zs_le0T, zs_le0F]
        exact ih 1 _ (by omega) (by omega) (zm_upP (P := fun s x => x = if s = 0 then 1 else 0) hr rfl)
      · simp (disch := omega) only [wY_findReached_2, forall_eq, zm_em_a, zm_eo_a, zm_eL_a, zm_oi_s, zm_oi_n, zm_em_u, zm_em_u0, zm_em_b0, zm_em_b1, zm_eo_u, zm_eo_un, zm_eL_u, zm_eL_u0, nI_clamp, nI_1, nI_add, zs_m2, zs_m4, zs_m5, zs_m8, zs_d2, zs_s1, zs_in, zs_leT, zs_leF, zs_ltT, zs_ltF, zs_eqT, zs_eqF, zs_m1e, zs_oe, zs_0lt, zs_e0T, zs_e0F, zs_2n, true_implies, forall_const, not_true_eq_false, not_false_eq_true, false_implies, and_true, true_and, implies_true, zs_l1T, zs_l1F, zs_l2T, zs_l2F, zs_l4T, zs_l4F, zs_l8T, zs_l8F, zs_l16T, zs_l16F, zs_l32T, zs_l32F, zs_l64T, zs_l64F, zs_l320T, zs_l320F, zs_l513T, zs_l513F, zs_l2561T, zs_l2561F, zs_t4T, zs_t4F, zs_e1T, zs_e1F, zs_nl0T, zs_nl0F, zs_nb, pk_rem, lN_1, zs_lleT, zs_lleF, zs_le0T, zs_le0F]
        exact ih (i + 1) _ (by omega) (by omega) (zm_upP (P := fun s x => x = if s = 0 then 1 else 0) hr (if_neg e).symm)
    · have e : i = nd := by omega
      subst e
      simp (disch := omega) only [wY_findReached_2, forall_eq, zm_em_a, zm_eo_a, zm_eL_a, zm_oi_s, zm_oi_n, zm_em_u, zm_em_u0, zm_em_b0, zm_em_b1, zm_eo_u, zm_eo_un, zm_eL_u, zm_eL_u0, nI_clamp, nI_1, nI_add, zs_m2, zs_m4, zs_m5, zs_m8, zs_d2, zs_s1, zs_in, zs_leT, zs_leF, zs_ltT, zs_ltF, zs_eqT, zs_eqF, zs_m1e, zs_oe, zs_0lt, zs_e0T, zs_e0F, zs_2n, true_implies, forall_const, not_true_eq_false, not_false_eq_true, false_implies, and_true, true_and, implies_true, zs_l1T, zs_l1F, zs_l2T, zs_l2F, zs_l4T, zs_l4F, zs_l8T, zs_l8F, zs_l16T, zs_l16F, zs_l32T, zs_l32F, zs_l64T, zs_l64F, zs_l320T, zs_l320F, zs_l513T, zs_l513F, zs_l2561T, zs_l2561F, zs_t4T, zs_t4F, zs_e1T, zs_e1F, zs_nl0T, zs_nl0F, zs_nb, pk_rem, lN_1, zs_lleT, zs_lleF, zs_le0T, zs_le0F]
      have B : zr_B i eg r := by
        refine ⟨fun j hj => ?_, ?_, fun n hn hz => ?_⟩
        · rw [hr j (by omega)]; split <;> omega
        · rw [hr 0 (by omega)]; decide
        · rw [hr n (by omega)] at hz
          by_cases e : n = 0
          · rw [e]; exact zp_R0 i eg
          · rw [if_neg e] at hz; exact absurd rfl hz
      exact ⟨9, zv_f33 h8 hE K 9 0 r (by omega) (by omega) B (zr_O0 h1 B)⟩
theorem zv_findReached {post : SY → Prop} (h1 : 1 ≤ nd) (h8 : nd ≤ 8) (hE : ∀ n, n < nd → ∀ s, s < 2 → ∀ t, eg (n * 2 + s) = some t → t < nd)
    (K : ∀ r : Nat → Nat, (∀ n, n < nd → r n ≤ 1) → (∀ n, n < nd → (r n ≠ 0 ↔ zp_R nd eg n)) → post (nI nd, nI bk, nI se, nI wy, nI wn, nI wp, hit, mis, lN ck, zm_eo ry, zm_eo eg, zm_em r, zm_em up, zm_em lw, zm_eL lu)) : wpY_findReached post (nI nd, nI bk, nI se, nI wy, nI wn, nI wp, hit, mis, lN ck, zm_eo ry, zm_eo eg, zm_em rr, zm_em up, zm_em lw, zm_eL lu) :=
  ⟨9, zv_f2 h1 h8 hE (fun r B O => K r B.1 (zr_fin B O (Nat.le_refl _))) 9 0 rr (by omega) (by omega) (fun s hs => absurd hs (by omega))⟩
end
end
section
/-! the reference: the right sides of its equations -/
section
variable {nd bk se wy wn wp ck : Nat} {hit mis : Int32} {rr up lw lu : Nat → Nat} {ry eg : Nat → Option Nat}
variable {ln rx : Nat → Nat}
theorem zv_jU16 {post : Int32 → Prop} {n b : Nat} (h8 : nd ≤ 8 ∧ bk ≤ 8) (hw : wy ≤ 4) (G : zp_G nd bk ln rx eg) (hy : zv_ry nd ln rx ry) (hrb : ∀ n, n < nd → rr n ≤ 1) (hub : ∀ j, j < 320 → up j ≤ wy) (hn : n < nd) (hb : b < bk)
    (K : post (nI (zy_jU rr eg n (fun i => up ((i / 2 * 5 + ln (i / 2)) * 8 + b)) (zy_z wy n) (nd * 2)))) : ∀ f i, i ≤ nd * 2 → nd * 2 - i < f →
      wY_joinUpper_16 post (nI n) (nI b) (nI nd) (nI bk) (nI se) (nI wy) (nI wn) (nI wp) hit mis (lN ck) (zm_eo ry) (zm_eo eg) (zm_em rr) (zm_em up) (zm_em lw) (zm_eL lu) f (nI (zy_jU rr eg n (fun i => up ((i / 2 * 5 + ln (i / 2)) * 8 + b)) (zy_z wy n) i)) (nI i) := by
  intro f
  induction f with
  | zero => intro i _ h; omega
  | succ f ih =>
    intro i hi hf
    have hg : zy_jU rr eg n (fun i => up ((i / 2 * 5 + ln (i / 2)) * 8 + b)) (zy_z wy n) i ≤ wy := by
      refine zy_jU_le (by unfold zy_z; split <;> omega) _ (fun j hj _ _ => hub _ ?_)
      have := G.1 (j / 2) (by omega)
      omega
    rcases Nat.lt_or_ge i (nd * 2) with h | h
    · have ih1 := ih (i + 1) (by omega) (by omega)
      rw [zy_jU] at ih1
      have hrb2 := hrb (i / 2) (by omega)
      have h4 := G.1 (i / 2) (by omega)
      by_cases hr : rr (i / 2) = 0
      · rw [if_neg (fun z => z.1 hr)] at ih1
        simp (disch := omega) only [wY_joinUpper_16, forall_eq, zm_em_a, zm_eo_a, zm_eL_a, zm_oi_s, zm_oi_n, zm_em_u, zm_em_u0, zm_em_b0, zm_em_b1, zm_eo_u, zm_eo_un, zm_eL_u, zm_eL_u0, nI_clamp, nI_1, nI_add, zs_m2, zs_m4, zs_m5, zs_m8, zs_d2, zs_s1, zs_in, zs_leT, zs_leF, zs_ltT, zs_ltF, zs_eqT, zs_eqF, zs_m1e, zs_oe, zs_0lt, zs_e0T, zs_e0F, zs_2n, true_implies, forall_const, not_true_eq_false, not_false_eq_true, false_implies, and_true, true_and, implies_true, zs_l1T, zs_l1F, zs_l2T, zs_l2F, zs_l4T, zs_l4F, zs_l8T, zs_l8F, zs_l16T, zs_l16F, zs_l32T, zs_l32F, zs_l64T, zs_l64F, zs_l320T, zs_l320F, zs_l513T, zs_l513F, zs_l2561T, zs_l2561F, zs_t4T, zs_t4F, zs_e1T, zs_e1F, zs_nl0T, zs_nl0F, zs_nb, pk_rem, lN_1, zs_lleT, zs_lleF, zs_le0T, zs_le0F]
        exact ih1
      · rcases e : eg i with _ | t
        · rw [if_neg (fun z => by rw [e] at z; cases z.2)] at ih1
          simp (disch := omega) only [wY_joinUpper_16, e, forall_eq, zm_em_a, zm_eo_a, zm_eL_a, zm_oi_s, zm_oi_n, zm_em_u, zm_em_u0, zm_em_b0, zm_em_b1, zm_eo_u, zm_eo_un, zm_eL_u, zm_eL_u0, nI_clamp, nI_1, nI_add, zs_m2, zs_m4, zs_m5, zs_m8, zs_d2, zs_s1, zs_in, zs_leT, zs_leF, zs_ltT, zs_ltF, zs_eqT, zs_eqF, zs_m1e, zs_oe, zs_0lt, zs_e0T, zs_e0F, zs_2n, true_implies, forall_const, not_true_eq_false, not_false_eq_true, false_implies, and_true, true_and, implies_true, zs_l1T, zs_l1F, zs_l2T, zs_l2F, zs_l4T, zs_l4F, zs_l8T, zs_l8F, zs_l16T, zs_l16F, zs_l32T, zs_l32F, zs_l64T, zs_l64F, zs_l320T, zs_l320F, zs_l513T, zs_l513F, zs_l2561T, zs_l2561F, zs_t4T, zs_t4F, zs_e1T, zs_e1F, zs_nl0T, zs_nl0F, zs_nb, pk_rem, lN_1, zs_lleT, zs_lleF, zs_le0T, zs_le0F]
          exact ih1
        · have ht : t < nd := G.2.2 (i / 2) (by omega) (i % 2) (by omega) t (by rw [show i / 2 * 2 + i % 2 = i from by omega]; exact e)
          by_cases en : t = n
          · subst en
            rw [if_pos ⟨hr, e⟩] at ih1
            have hu := hub ((i / 2 * 5 + ln (i / 2)) * 8 + b) (by omega)
            simp (disch := omega) only [wY_joinUpper_16, e, forall_eq, zm_em_a, zm_eo_a, zm_eL_a, zm_oi_s, zm_oi_n, zm_em_u, zm_em_u0, zm_em_b0, zm_em_b1, zm_eo_u, zm_eo_un, zm_eL_u, zm_eL_u0, nI_clamp, nI_1, nI_add, zs_m2, zs_m4, zs_m5, zs_m8, zs_d2, zs_s1, zs_in, zs_leT, zs_leF, zs_ltT, zs_ltF, zs_eqT, zs_eqF, zs_m1e, zs_oe, zs_0lt, zs_e0T, zs_e0F, zs_2n, true_implies, forall_const, not_true_eq_false, not_false_eq_true, false_implies, and_true, true_and, implies_true, zs_l1T, zs_l1F, zs_l2T, zs_l2F, zs_l4T, zs_l4F, zs_l8T, zs_l8F, zs_l16T, zs_l16F, zs_l32T, zs_l32F, zs_l64T, zs_l64F, zs_l320T, zs_l320F, zs_l513T, zs_l513F, zs_l2561T, zs_l2561F, zs_t4T, zs_t4F, zs_e1T, zs_e1F, zs_nl0T, zs_nl0F, zs_nb, pk_rem, lN_1, zs_lleT, zs_lleF, zs_le0T, zs_le0F]
            refine zv_len h8 G hy (by omega) ?_
            simp (disch := omega) only [forall_eq, zm_em_a, zm_eo_a, zm_eL_a, zm_oi_s, zm_oi_n, zm_em_u, zm_em_u0, zm_em_b0, zm_em_b1, zm_eo_u, zm_eo_un, zm_eL_u, zm_eL_u0, nI_clamp, nI_1, nI_add, zs_m2, zs_m4, zs_m5, zs_m8, zs_d2, zs_s1, zs_in, zs_leT, zs_leF, zs_ltT, zs_ltF, zs_eqT, zs_eqF, zs_m1e, zs_oe, zs_0lt, zs_e0T, zs_e0F, zs_2n, true_implies, forall_const, not_true_eq_false, not_false_eq_true, false_implies, and_true, true_and, implies_true, zs_l1T, zs_l1F, zs_l2T, zs_l2F, zs_l4T, zs_l4F, zs_l8T, zs_l8F, zs_l16T, zs_l16F, zs_l32T, zs_l32F, zs_l64T, zs_l64F, zs_l320T, zs_l320F, zs_l513T, zs_l513F, zs_l2561T, zs_l2561F, zs_t4T, zs_t4F, zs_e1T, zs_e1F, zs_nl0T, zs_nl0F, zs_nb, pk_rem, lN_1, zs_lleT, zs_lleF, zs_le0T, zs_le0F]
            by_cases c : up ((i / 2 * 5 + ln (i / 2)) * 8 + b) ≤ zy_jU rr eg t (fun i => up ((i / 2 * 5 + ln (i / 2)) * 8 + b)) (zy_z wy t) i
            · rw [if_pos c] at ih1
              exact br_t (nI_le c (by omega)) ih1
            · rw [if_neg c] at ih1
              exact br_f (nI_ge (by omega) (by omega)) ih1
          · rw [if_neg (fun z => by rw [e] at z; cases z.2; exact en rfl)] at ih1
            simp (disch := omega) only [wY_joinUpper_16, e, forall_eq, zm_em_a, zm_eo_a, zm_eL_a, zm_oi_s, zm_oi_n, zm_em_u, zm_em_u0, zm_em_b0, zm_em_b1, zm_eo_u, zm_eo_un, zm_eL_u, zm_eL_u0, nI_clamp, nI_1, nI_add, zs_m2, zs_m4, zs_m5, zs_m8, zs_d2, zs_s1, zs_in, zs_leT, zs_leF, zs_ltT, zs_ltF, zs_eqT, zs_eqF, zs_m1e, zs_oe, zs_0lt, zs_e0T, zs_e0F, zs_2n, true_implies, forall_const, not_true_eq_false, not_false_eq_true, false_implies, and_true, true_and, implies_true, zs_l1T, zs_l1F, zs_l2T, zs_l2F, zs_l4T, zs_l4F, zs_l8T, zs_l8F, zs_l16T, zs_l16F, zs_l32T, zs_l32F, zs_l64T, zs_l64F, zs_l320T, zs_l320F, zs_l513T, zs_l513F, zs_l2561T, zs_l2561F, zs_t4T, zs_t4F, zs_e1T, zs_e1F, zs_nl0T, zs_nl0F, zs_nb, pk_rem, lN_1, zs_lleT, zs_lleF, zs_le0T, zs_le0F]
            exact ih1
    · have e : i = nd * 2 := by omega
      subst e
      simp (disch := omega) only [wY_joinUpper_16, forall_eq, zm_em_a, zm_eo_a, zm_eL_a, zm_oi_s, zm_oi_n, zm_em_u, zm_em_u0, zm_em_b0, zm_em_b1, zm_eo_u, zm_eo_un, zm_eL_u, zm_eL_u0, nI_clamp, nI_1, nI_add, zs_m2, zs_m4, zs_m5, zs_m8, zs_d2, zs_s1, zs_in, zs_leT, zs_leF, zs_ltT, zs_ltF, zs_eqT, zs_eqF, zs_m1e, zs_oe, zs_0lt, zs_e0T, zs_e0F, zs_2n, true_implies, forall_const, not_true_eq_false, not_false_eq_true, false_implies, and_true, true_and, implies_true, zs_l1T, zs_l1F, zs_l2T, zs_l2F, zs_l4T, zs_l4F, zs_l8T, zs_l8F, zs_l16T, zs_l16F, zs_l32T, zs_l32F, zs_l64T, zs_l64F, zs_l320T, zs_l320F, zs_l513T, zs_l513F, zs_l2561T, zs_l2561F, zs_t4T, zs_t4F, zs_e1T, zs_e1F, zs_nl0T, zs_nl0F, zs_nb, pk_rem, lN_1, zs_lleT, zs_lleF, zs_le0T, zs_le0F]
      exact K
theorem zv_jL8 {post : Int32 → Prop} {n b : Nat} (h8 : nd ≤ 8 ∧ bk ≤ 8) (hw : wy ≤ 4) (G : zp_G nd bk ln rx eg) (hy : zv_ry nd ln rx ry) (hrb : ∀ n, n < nd → rr n ≤ 1) (hub : ∀ j, j < 320 → lw j ≤ wy) (hn : n < nd) (hb : b < bk)
    (K : post (nI (zy_jL rr eg n (fun i => lw ((i / 2 * 5 + ln (i / 2)) * 8 + b)) wy (nd * 2)))) : ∀ f i, i ≤ nd * 2 → nd * 2 - i < f →
      wY_joinLower_8 post (nI n) (nI b) (nI nd) (nI bk) (nI se) (nI wy) (nI wn) (nI wp) hit mis (lN ck) (zm_eo ry) (zm_eo eg) (zm_em rr) (zm_em up) (zm_em lw) (zm_eL lu) f (nI (zy_jL rr eg n (fun i => lw ((i / 2 * 5 + ln (i / 2)) * 8 + b)) wy i)) (nI i) := by
  intro f
  induction f with
  | zero => intro i _ h; omega
  | succ f ih =>
    intro i hi hf
    have hg : zy_jL rr eg n (fun i => lw ((i / 2 * 5 + ln (i / 2)) * 8 + b)) wy i ≤ wy := zy_jL_z i
    rcases Nat.lt_or_ge i (nd * 2) with h | h
    · have ih1 := ih (i + 1) (by omega) (by omega)
      rw [zy_jL] at ih1
      have hrb2 := hrb (i / 2) (by omega)
      have h4 := G.1 (i / 2) (by omega)
      by_cases hr : rr (i / 2) = 0
      · rw [if_neg (fun z => z.1 hr)] at ih1
        simp (disch := omega) only [wY_joinLower_8, forall_eq, zm_em_a, zm_eo_a, zm_eL_a, zm_oi_s, zm_oi_n, zm_em_u, zm_em_u0, zm_em_b0, zm_em_b1, zm_eo_u, zm_eo_un, zm_eL_u, zm_eL_u0, nI_clamp, nI_1, nI_add, zs_m2, zs_m4, zs_m5, zs_m8, zs_d2, zs_s1, zs_in, zs_leT, zs_leF, zs_ltT, zs_ltF, zs_eqT, zs_eqF, zs_m1e, zs_oe, zs_0lt, zs_e0T, zs_e0F, zs_2n, true_implies, forall_const, not_true_eq_false, not_false_eq_true, false_implies, and_true, true_and, implies_true, zs_l1T, zs_l1F, zs_l2T, zs_l2F, zs_l4T, zs_l4F, zs_l8T, zs_l8F, zs_l16T, zs_l16F, zs_l32T, zs_l32F, zs_l64T, zs_l64F, zs_l320T, zs_l320F, zs_l513T, zs_l513F, zs_l2561T, zs_l2561F, zs_t4T, zs_t4F, zs_e1T, zs_e1F, zs_nl0T, zs_nl0F, zs_nb, pk_rem, lN_1, zs_lleT, zs_lleF, zs_le0T, zs_le0F]
        exact ih1
      · rcases e : eg i with _ | t
        · rw [if_neg (fun z => by rw [e] at z; cases z.2)] at ih1
          simp (disch := omega) only [wY_joinLower_8, e, forall_eq, zm_em_a, zm_eo_a, zm_eL_a, zm_oi_s, zm_oi_n, zm_em_u, zm_em_u0, zm_em_b0, zm_em_b1, zm_eo_u, zm_eo_un, zm_eL_u, zm_eL_u0, nI_clamp, nI_1, nI_add, zs_m2, zs_m4, zs_m5, zs_m8, zs_d2, zs_s1, zs_in, zs_leT, zs_leF, zs_ltT, zs_ltF, zs_eqT, zs_eqF, zs_m1e, zs_oe, zs_0lt, zs_e0T, zs_e0F, zs_2n, true_implies, forall_const, not_true_eq_false, not_false_eq_true, false_implies, and_true, true_and, implies_true, zs_l1T, zs_l1F, zs_l2T, zs_l2F, zs_l4T, zs_l4F, zs_l8T, zs_l8F, zs_l16T, zs_l16F, zs_l32T, zs_l32F, zs_l64T, zs_l64F, zs_l320T, zs_l320F, zs_l513T, zs_l513F, zs_l2561T, zs_l2561F, zs_t4T, zs_t4F, zs_e1T, zs_e1F, zs_nl0T, zs_nl0F, zs_nb, pk_rem, lN_1, zs_lleT, zs_lleF, zs_le0T, zs_le0F]
          exact ih1
        · have ht : t < nd := G.2.2 (i / 2) (by omega) (i % 2) (by omega) t (by rw [show i / 2 * 2 + i % 2 = i from by omega]; exact e)
          by_cases en : t = n
          · subst en
            rw [if_pos ⟨hr, e⟩] at ih1
            have hu := hub ((i / 2 * 5 + ln (i / 2)) * 8 + b) (by omega)
            simp (disch := omega) only [wY_joinLower_8, e, forall_eq, zm_em_a, zm_eo_a, zm_eL_a, zm_oi_s, zm_oi_n, zm_em_u, zm_em_u0, zm_em_b0, zm_em_b1, zm_eo_u, zm_eo_un, zm_eL_u, zm_eL_u0, nI_clamp, nI_1, nI_add, zs_m2, zs_m4, zs_m5, zs_m8, zs_d2, zs_s1, zs_in, zs_leT, zs_leF, zs_ltT, zs_ltF, zs_eqT, zs_eqF, zs_m1e, zs_oe, zs_0lt, zs_e0T, zs_e0F, zs_2n, true_implies, forall_const, not_true_eq_false, not_false_eq_true, false_implies, and_true, true_and, implies_true, zs_l1T, zs_l1F, zs_l2T, zs_l2F, zs_l4T, zs_l4F, zs_l8T, zs_l8F, zs_l16T, zs_l16F, zs_l32T, zs_l32F, zs_l64T, zs_l64F, zs_l320T, zs_l320F, zs_l513T, zs_l513F, zs_l2561T, zs_l2561F, zs_t4T, zs_t4F, zs_e1T, zs_e1F, zs_nl0T, zs_nl0F, zs_nb, pk_rem, lN_1, zs_lleT, zs_lleF, zs_le0T, zs_le0F]
            refine zv_len h8 G hy (by omega) ?_
            simp (disch := omega) only [forall_eq, zm_em_a, zm_eo_a, zm_eL_a, zm_oi_s, zm_oi_n, zm_em_u, zm_em_u0, zm_em_b0, zm_em_b1, zm_eo_u, zm_eo_un, zm_eL_u, zm_eL_u0, nI_clamp, nI_1, nI_add, zs_m2, zs_m4, zs_m5, zs_m8, zs_d2, zs_s1, zs_in, zs_leT, zs_leF, zs_ltT, zs_ltF, zs_eqT, zs_eqF, zs_m1e, zs_oe, zs_0lt, zs_e0T, zs_e0F, zs_2n, true_implies, forall_const, not_true_eq_false, not_false_eq_true, false_implies, and_true, true_and, implies_true, zs_l1T, zs_l1F, zs_l2T, zs_l2F, zs_l4T, zs_l4F, zs_l8T, zs_l8F, zs_l16T, zs_l16F, zs_l32T, zs_l32F, zs_l64T, zs_l64F, zs_l320T, zs_l320F, zs_l513T, zs_l513F, zs_l2561T, zs_l2561F, zs_t4T, zs_t4F, zs_e1T, zs_e1F, zs_nl0T, zs_nl0F, zs_nb, pk_rem, lN_1, zs_lleT, zs_lleF, zs_le0T, zs_le0F]
            by_cases c : zy_jL rr eg t (fun i => lw ((i / 2 * 5 + ln (i / 2)) * 8 + b)) wy i ≤ lw ((i / 2 * 5 + ln (i / 2)) * 8 + b)
            · rw [if_pos c] at ih1
              exact br_t (nI_le c (by omega)) ih1
            · rw [if_neg c] at ih1
              exact br_f (nI_ge (by omega) (by omega)) ih1
          · rw [if_neg (fun z => by rw [e] at z; cases z.2; exact en rfl)] at ih1
            simp (disch := omega) only [wY_joinLower_8, e, forall_eq, zm_em_a, zm_eo_a, zm_eL_a, zm_oi_s, zm_oi_n, zm_em_u, zm_em_u0, zm_em_b0, zm_em_b1, zm_eo_u, zm_eo_un, zm_eL_u, zm_eL_u0, nI_clamp, nI_1, nI_add, zs_m2, zs_m4, zs_m5, zs_m8, zs_d2, zs_s1, zs_in, zs_leT, zs_leF, zs_ltT, zs_ltF, zs_eqT, zs_eqF, zs_m1e, zs_oe, zs_0lt, zs_e0T, zs_e0F, zs_2n, true_implies, forall_const, not_true_eq_false, not_false_eq_true, false_implies, and_true, true_and, implies_true, zs_l1T, zs_l1F, zs_l2T, zs_l2F, zs_l4T, zs_l4F, zs_l8T, zs_l8F, zs_l16T, zs_l16F, zs_l32T, zs_l32F, zs_l64T, zs_l64F, zs_l320T, zs_l320F, zs_l513T, zs_l513F, zs_l2561T, zs_l2561F, zs_t4T, zs_t4F, zs_e1T, zs_e1F, zs_nl0T, zs_nl0F, zs_nb, pk_rem, lN_1, zs_lleT, zs_lleF, zs_le0T, zs_le0F]
            exact ih1
    · have e : i = nd * 2 := by omega
      subst e
      simp (disch := omega) only [wY_joinLower_8, forall_eq, zm_em_a, zm_eo_a, zm_eL_a, zm_oi_s, zm_oi_n, zm_em_u, zm_em_u0, zm_em_b0, zm_em_b1, zm_eo_u, zm_eo_un, zm_eL_u, zm_eL_u0, nI_clamp, nI_1, nI_add, zs_m2, zs_m4, zs_m5, zs_m8, zs_d2, zs_s1, zs_in, zs_leT, zs_leF, zs_ltT, zs_ltF, zs_eqT, zs_eqF, zs_m1e, zs_oe, zs_0lt, zs_e0T, zs_e0F, zs_2n, true_implies, forall_const, not_true_eq_false, not_false_eq_true, false_implies, and_true, true_and, implies_true, zs_l1T, zs_l1F, zs_l2T, zs_l2F, zs_l4T, zs_l4F, zs_l8T, zs_l8F, zs_l16T, zs_l16F, zs_l32T, zs_l32F, zs_l64T, zs_l64F, zs_l320T, zs_l320F, zs_l513T, zs_l513F, zs_l2561T, zs_l2561F, zs_t4T, zs_t4F, zs_e1T, zs_e1F, zs_nl0T, zs_nl0F, zs_nb, pk_rem, lN_1, zs_lleT, zs_lleF, zs_le0T, zs_le0F]
      exact K
theorem zv_FU0 {post : Int32 → Prop} {n b : Nat} (h8 : nd ≤ 8 ∧ bk ≤ 8) (hw : wy ≤ 4) (G : zp_G nd bk ln rx eg) (hy : zv_ry nd ln rx ry) (hrb : ∀ n, n < nd → rr n ≤ 1) (hub : ∀ j, j < 320 → up j ≤ wy) (hn : n < nd) (hb : b < bk)
    (K : post (nI (zy_FU nd se wy ln rx eg rr up n 0 b))) : wpY_joinUpper post (nI nd, nI bk, nI se, nI wy, nI wn, nI wp, hit, mis, lN ck, zm_eo ry, zm_eo eg, zm_em rr, zm_em up, zm_em lw, zm_eL lu) (nI n) (nI b) := by
  unfold zy_FU at K
  rw [if_pos rfl] at K
  by_cases e : n = 0
  · subst e
    exact br_t nI_0 ⟨17, zv_jU16 h8 hw G hy hrb hub hn hb K 17 0 (by omega) (by omega)⟩
  · have key : wY_joinUpper_16 post (nI n) (nI b) (nI nd) (nI bk) (nI se) (nI wy) (nI wn) (nI wp) hit mis (lN ck) (zm_eo ry) (zm_eo eg) (zm_em rr) (zm_em up) (zm_em lw) (zm_eL lu) 17 (nI (zy_z wy n)) (nI 0) := zv_jU16 h8 hw G hy hrb hub hn hb K 17 0 (by omega) (by omega)
    have z : zy_z wy n = 0 := if_neg e
    rw [z] at key
    exact br_f (nI_ne0 (by omega) (by omega)) ⟨17, key⟩
theorem zv_FL0 {post : Int32 → Prop} {n b : Nat} (h8 : nd ≤ 8 ∧ bk ≤ 8) (hw : wy ≤ 4) (G : zp_G nd bk ln rx eg) (hy : zv_ry nd ln rx ry) (hrb : ∀ n, n < nd → rr n ≤ 1) (hub : ∀ j, j < 320 → lw j ≤ wy) (hn : n < nd) (hb : b < bk)
    (K : post (nI (zy_FL nd se wy ln rx eg rr lw n 0 b))) : wpY_joinLower post (nI nd, nI bk, nI se, nI wy, nI wn, nI wp, hit, mis, lN ck, zm_eo ry, zm_eo eg, zm_em rr, zm_em up, zm_em lw, zm_eL lu) (nI n) (nI b) := by
  unfold zy_FL at K
  rw [if_pos rfl] at K
  exact ⟨17, zv_jL8 h8 hw G hy hrb hub hn hb K 17 0 (by omega) (by omega)⟩
theorem zv_FU1 {post : Int32 → Prop} {n p b : Nat} (h8 : nd ≤ 8 ∧ bk ≤ 8) (hw : wy ≤ 4) (hse : 1 ≤ se ∧ se ≤ 4) (G : zp_G nd bk ln rx eg) (hy : zv_ry nd ln rx ry) (hub : ∀ j, j < 320 → up j ≤ wy) (hn : n < nd) (hp : p ≤ ln n) (hp0 : p ≠ 0) (hb : b < bk)
    (K : post (nI (zy_FU nd se wy ln rx eg rr up n p b))) : wpY_effectUpper post (nI nd, nI bk, nI se, nI wy, nI wn, nI wp, hit, mis, lN ck, zm_eo ry, zm_eo eg, zm_em rr, zm_em up, zm_em lw, zm_eL lu) (nI n) (nI p) (nI b) := by
  unfold zy_FU at K
  rw [if_neg hp0] at K
  obtain ⟨q, rfl⟩ : ∃ q, p = q + 1 := ⟨p - 1, by omega⟩
  have h4 := G.1 n hn
  have hc := G.2.1 n hn q (by omega)
  have e := hy n hn q (by omega)
  rw [if_pos (by omega)] at e
  have s1 : n * 4 + (q + 1) - 1 = n * 4 + q := by omega
  have s2 : n * 5 + (q + 1) - 1 = n * 5 + q := by omega
  rw [s1, s2] at K
  generalize hcc : rx (n * 4 + q) = c at *
  have b1 := hub ((n * 5 + q) * 8 + b) (by omega)
  have b2 := hub ((n * 5 + q) * 8 + c) (by omega)
  have t1 := Nat.mod_lt b (show 0 < se by omega)
  have t2 := Nat.mod_lt c (show 0 < se by omega)
  by_cases ebc : b = c
  · subst ebc
    rw [zp_eU_c] at K
    simp (disch := omega) only [wpY_effectUpper, s1, s2, e, forall_eq, zm_em_a, zm_eo_a, zm_eL_a, zm_oi_s, zm_oi_n, zm_em_u, zm_em_u0, zm_em_b0, zm_em_b1, zm_eo_u, zm_eo_un, zm_eL_u, zm_eL_u0, nI_clamp, nI_1, nI_add, zs_m2, zs_m4, zs_m5, zs_m8, zs_d2, zs_s1, zs_in, zs_leT, zs_leF, zs_ltT, zs_ltF, zs_eqT, zs_eqF, zs_m1e, zs_oe, zs_0lt, zs_e0T, zs_e0F, zs_2n, true_implies, forall_const, not_true_eq_false, not_false_eq_true, false_implies, and_true, true_and, implies_true, zs_l1T, zs_l1F, zs_l2T, zs_l2F, zs_l4T, zs_l4F, zs_l8T, zs_l8F, zs_l16T, zs_l16F, zs_l32T, zs_l32F, zs_l64T, zs_l64F, zs_l320T, zs_l320F, zs_l513T, zs_l513F, zs_l2561T, zs_l2561F, zs_t4T, zs_t4F, zs_e1T, zs_e1F, zs_nl0T, zs_nl0F, zs_nb, pk_rem, lN_1, zs_lleT, zs_lleF, zs_le0T, zs_le0F]
    exact K
  · by_cases es : b % se = c % se
    · rcases Nat.lt_or_ge (up ((n * 5 + q) * 8 + b)) (up ((n * 5 + q) * 8 + c)) with a | a
      · rw [zp_eU_lt ebc es a] at K
        simp (disch := omega) only [wpY_effectUpper, s1, s2, e, forall_eq, zm_em_a, zm_eo_a, zm_eL_a, zm_oi_s, zm_oi_n, zm_em_u, zm_em_u0, zm_em_b0, zm_em_b1, zm_eo_u, zm_eo_un, zm_eL_u, zm_eL_u0, nI_clamp, nI_1, nI_add, zs_m2, zs_m4, zs_m5, zs_m8, zs_d2, zs_s1, zs_in, zs_leT, zs_leF, zs_ltT, zs_ltF, zs_eqT, zs_eqF, zs_m1e, zs_oe, zs_0lt, zs_e0T, zs_e0F, zs_2n, true_implies, forall_const, not_true_eq_false, not_false_eq_true, false_implies, and_true, true_and, implies_true, zs_l1T, zs_l1F, zs_l2T, zs_l2F, zs_l4T, zs_l4F, zs_l8T, zs_l8F, zs_l16T, zs_l16F, zs_l32T, zs_l32F, zs_l64T, zs_l64F, zs_l320T, zs_l320F, zs_l513T, zs_l513F, zs_l2561T, zs_l2561F, zs_t4T, zs_t4F, zs_e1T, zs_e1F, zs_nl0T, zs_nl0F, zs_nb, pk_rem, lN_1, zs_lleT, zs_lleF, zs_le0T, zs_le0F]
        exact K
      · rw [zp_eU_ge ebc es a] at K
        simp (disch := omega) only [wpY_effectUpper, s1, s2, e, forall_eq, zm_em_a, zm_eo_a, zm_eL_a, zm_oi_s, zm_oi_n, zm_em_u, zm_em_u0, zm_em_b0, zm_em_b1, zm_eo_u, zm_eo_un, zm_eL_u, zm_eL_u0, nI_clamp, nI_1, nI_add, zs_m2, zs_m4, zs_m5, zs_m8, zs_d2, zs_s1, zs_in, zs_leT, zs_leF, zs_ltT, zs_ltF, zs_eqT, zs_eqF, zs_m1e, zs_oe, zs_0lt, zs_e0T, zs_e0F, zs_2n, true_implies, forall_const, not_true_eq_false, not_false_eq_true, false_implies, and_true, true_and, implies_true, zs_l1T, zs_l1F, zs_l2T, zs_l2F, zs_l4T, zs_l4F, zs_l8T, zs_l8F, zs_l16T, zs_l16F, zs_l32T, zs_l32F, zs_l64T, zs_l64F, zs_l320T, zs_l320F, zs_l513T, zs_l513F, zs_l2561T, zs_l2561F, zs_t4T, zs_t4F, zs_e1T, zs_e1F, zs_nl0T, zs_nl0F, zs_nb, pk_rem, lN_1, zs_lleT, zs_lleF, zs_le0T, zs_le0F]
        exact K
    · rw [zp_eU_ne ebc es] at K
      simp (disch := omega) only [wpY_effectUpper, s1, s2, e, forall_eq, zm_em_a, zm_eo_a, zm_eL_a, zm_oi_s, zm_oi_n, zm_em_u, zm_em_u0, zm_em_b0, zm_em_b1, zm_eo_u, zm_eo_un, zm_eL_u, zm_eL_u0, nI_clamp, nI_1, nI_add, zs_m2, zs_m4, zs_m5, zs_m8, zs_d2, zs_s1, zs_in, zs_leT, zs_leF, zs_ltT, zs_ltF, zs_eqT, zs_eqF, zs_m1e, zs_oe, zs_0lt, zs_e0T, zs_e0F, zs_2n, true_implies, forall_const, not_true_eq_false, not_false_eq_true, false_implies, and_true, true_and, implies_true, zs_l1T, zs_l1F, zs_l2T, zs_l2F, zs_l4T, zs_l4F, zs_l8T, zs_l8F, zs_l16T, zs_l16F, zs_l32T, zs_l32F, zs_l64T, zs_l64F, zs_l320T, zs_l320F, zs_l513T, zs_l513F, zs_l2561T, zs_l2561F, zs_t4T, zs_t4F, zs_e1T, zs_e1F, zs_nl0T, zs_nl0F, zs_nb, pk_rem, lN_1, zs_lleT, zs_lleF, zs_le0T, zs_le0F]
      exact K
theorem zv_FL1 {post : Int32 → Prop} {n p b : Nat} (h8 : nd ≤ 8 ∧ bk ≤ 8) (hw : wy ≤ 4) (hse : 1 ≤ se ∧ se ≤ 4) (G : zp_G nd bk ln rx eg) (hy : zv_ry nd ln rx ry) (hub : ∀ j, j < 320 → lw j ≤ wy) (hn : n < nd) (hp : p ≤ ln n) (hp0 : p ≠ 0) (hb : b < bk)
    (K : post (nI (zy_FL nd se wy ln rx eg rr lw n p b))) : wpY_effectLower post (nI nd, nI bk, nI se, nI wy, nI wn, nI wp, hit, mis, lN ck, zm_eo ry, zm_eo eg, zm_em rr, zm_em up, zm_em lw, zm_eL lu) (nI n) (nI p) (nI b) := by
  unfold zy_FL at K
  rw [if_neg hp0] at K
  obtain ⟨q, rfl⟩ : ∃ q, p = q + 1 := ⟨p - 1, by omega⟩
  have h4 := G.1 n hn
  have hc := G.2.1 n hn q (by omega)
  have e := hy n hn q (by omega)
  rw [if_pos (by omega)] at e
  have s1 : n * 4 + (q + 1) - 1 = n * 4 + q := by omega
  have s2 : n * 5 + (q + 1) - 1 = n * 5 + q := by omega
  rw [s1, s2] at K
  generalize hcc : rx (n * 4 + q) = c at *
  have b1 := hub ((n * 5 + q) * 8 + b) (by omega)
  have b2 := hub ((n * 5 + q) * 8 + c) (by omega)
  have t1 := Nat.mod_lt b (show 0 < se by omega)
  have t2 := Nat.mod_lt c (show 0 < se by omega)
  by_cases ebc : b = c
  · subst ebc
    rw [zp_eL_c] at K
    simp (disch := omega) only [wpY_effectLower, s1, s2, e, forall_eq, zm_em_a, zm_eo_a, zm_eL_a, zm_oi_s, zm_oi_n, zm_em_u, zm_em_u0, zm_em_b0, zm_em_b1, zm_eo_u, zm_eo_un, zm_eL_u, zm_eL_u0, nI_clamp, nI_1, nI_add, zs_m2, zs_m4, zs_m5, zs_m8, zs_d2, zs_s1, zs_in, zs_leT, zs_leF, zs_ltT, zs_ltF, zs_eqT, zs_eqF, zs_m1e, zs_oe, zs_0lt, zs_e0T, zs_e0F, zs_2n, true_implies, forall_const, not_true_eq_false, not_false_eq_true, false_implies, and_true, true_and, implies_true, zs_l1T, zs_l1F, zs_l2T, zs_l2F, zs_l4T, zs_l4F, zs_l8T, zs_l8F, zs_l16T, zs_l16F, zs_l32T, zs_l32F, zs_l64T, zs_l64F, zs_l320T, zs_l320F, zs_l513T, zs_l513F, zs_l2561T, zs_l2561F, zs_t4T, zs_t4F, zs_e1T, zs_e1F, zs_nl0T, zs_nl0F, zs_nb, pk_rem, lN_1, zs_lleT, zs_lleF, zs_le0T, zs_le0F]
    exact K
  · by_cases es : b % se = c % se
    · by_cases a : lw ((n * 5 + q) * 8 + b) ≤ lw ((n * 5 + q) * 8 + c) ∧ lw ((n * 5 + q) * 8 + b) < wy
      · rw [zp_eL_lt ebc es a.1 a.2] at K
        simp (disch := omega) only [wpY_effectLower, wY_effectLower_102, wY_effectLower_103, s1, s2, e, forall_eq, zm_em_a, zm_eo_a, zm_eL_a, zm_oi_s, zm_oi_n, zm_em_u, zm_em_u0, zm_em_b0, zm_em_b1, zm_eo_u, zm_eo_un, zm_eL_u, zm_eL_u0, nI_clamp, nI_1, nI_add, zs_m2, zs_m4, zs_m5, zs_m8, zs_d2, zs_s1, zs_in, zs_leT, zs_leF, zs_ltT, zs_ltF, zs_eqT, zs_eqF, zs_m1e, zs_oe, zs_0lt, zs_e0T, zs_e0F, zs_2n, true_implies, forall_const, not_true_eq_false, not_false_eq_true, false_implies, and_true, true_and, implies_true, zs_l1T, zs_l1F, zs_l2T, zs_l2F, zs_l4T, zs_l4F, zs_l8T, zs_l8F, zs_l16T, zs_l16F, zs_l32T, zs_l32F, zs_l64T, zs_l64F, zs_l320T, zs_l320F, zs_l513T, zs_l513F, zs_l2561T, zs_l2561F, zs_t4T, zs_t4F, zs_e1T, zs_e1F, zs_nl0T, zs_nl0F, zs_nb, pk_rem, lN_1, zs_lleT, zs_lleF, zs_le0T, zs_le0F]
        exact br_f (by decide) K
      · rw [zp_eL_ge ebc es a] at K
        rcases Nat.lt_or_ge (lw ((n * 5 + q) * 8 + c)) (lw ((n * 5 + q) * 8 + b)) with a3 | a3
        · simp (disch := omega) only [wpY_effectLower, wY_effectLower_102, wY_effectLower_103, s1, s2, e, forall_eq, zm_em_a, zm_eo_a, zm_eL_a, zm_oi_s, zm_oi_n, zm_em_u, zm_em_u0, zm_em_b0, zm_em_b1, zm_eo_u, zm_eo_un, zm_eL_u, zm_eL_u0, nI_clamp, nI_1, nI_add, zs_m2, zs_m4, zs_m5, zs_m8, zs_d2, zs_s1, zs_in, zs_leT, zs_leF, zs_ltT, zs_ltF, zs_eqT, zs_eqF, zs_m1e, zs_oe, zs_0lt, zs_e0T, zs_e0F, zs_2n, true_implies, forall_const, not_true_eq_false, not_false_eq_true, false_implies, and_true, true_and, implies_true, zs_l1T, zs_l1F, zs_l2T, zs_l2F, zs_l4T, zs_l4F, zs_l8T, zs_l8F, zs_l16T, zs_l16F, zs_l32T, zs_l32F, zs_l64T, zs_l64F, zs_l320T, zs_l320F, zs_l513T, zs_l513F, zs_l2561T, zs_l2561F, zs_t4T, zs_t4F, zs_e1T, zs_e1F, zs_nl0T, zs_nl0F, zs_nb, pk_rem, lN_1, zs_lleT, zs_lleF, zs_le0T, zs_le0F]
          exact K
        · have a4 : wy ≤ lw ((n * 5 + q) * 8 + b) := by omega
          simp (disch := omega) only [wpY_effectLower, wY_effectLower_102, wY_effectLower_103, s1, s2, e, forall_eq, zm_em_a, zm_eo_a, zm_eL_a, zm_oi_s, zm_oi_n, zm_em_u, zm_em_u0, zm_em_b0, zm_em_b1, zm_eo_u, zm_eo_un, zm_eL_u, zm_eL_u0, nI_clamp, nI_1, nI_add, zs_m2, zs_m4, zs_m5, zs_m8, zs_d2, zs_s1, zs_in, zs_leT, zs_leF, zs_ltT, zs_ltF, zs_eqT, zs_eqF, zs_m1e, zs_oe, zs_0lt, zs_e0T, zs_e0F, zs_2n, true_implies, forall_const, not_true_eq_false, not_false_eq_true, false_implies, and_true, true_and, implies_true, zs_l1T, zs_l1F, zs_l2T, zs_l2F, zs_l4T, zs_l4F, zs_l8T, zs_l8F, zs_l16T, zs_l16F, zs_l32T, zs_l32F, zs_l64T, zs_l64F, zs_l320T, zs_l320F, zs_l513T, zs_l513F, zs_l2561T, zs_l2561F, zs_t4T, zs_t4F, zs_e1T, zs_e1F, zs_nl0T, zs_nl0F, zs_nb, pk_rem, lN_1, zs_lleT, zs_lleF, zs_le0T, zs_le0F]
          exact K
    · rw [zp_eL_ne ebc es] at K
      simp (disch := omega) only [wpY_effectLower, s1, s2, e, forall_eq, zm_em_a, zm_eo_a, zm_eL_a, zm_oi_s, zm_oi_n, zm_em_u, zm_em_u0, zm_em_b0, zm_em_b1, zm_eo_u, zm_eo_un, zm_eL_u, zm_eL_u0, nI_clamp, nI_1, nI_add, zs_m2, zs_m4, zs_m5, zs_m8, zs_d2, zs_s1, zs_in, zs_leT, zs_leF, zs_ltT, zs_ltF, zs_eqT, zs_eqF, zs_m1e, zs_oe, zs_0lt, zs_e0T, zs_e0F, zs_2n, true_implies, forall_const, not_true_eq_false, not_false_eq_true, false_implies, and_true, true_and, implies_true, zs_l1T, zs_l1F, zs_l2T, zs_l2F, zs_l4T, zs_l4F, zs_l8T, zs_l8F, zs_l16T, zs_l16F, zs_l32T, zs_l32F, zs_l64T, zs_l64F, zs_l320T, zs_l320F, zs_l513T, zs_l513F, zs_l2561T, zs_l2561F, zs_t4T, zs_t4F, zs_e1T, zs_e1F, zs_nl0T, zs_nl0F, zs_nb, pk_rem, lN_1, zs_lleT, zs_lleF, zs_le0T, zs_le0F]
      exact K
end
end
section
/-! the reference: solve -/
def zq_Y (nd bk se wy : Nat) (ln rx : Nat → Nat) (eg : Nat → Option Nat) (rr : Nat → Nat) (P : (Nat → Nat) → (Nat → Nat) → Prop) (m x : Nat) (up lw : Nat → Nat) : Prop :=
  zy_Y nd bk se wy ln rx eg rr up lw ∧ m ≤ zm_mu 320 wy up lw ∧ ((x = 0 ∧ P up lw) ∨ (x = 1 ∧ m + 1 ≤ zm_mu 320 wy up lw))
section
variable {nd bk se wy : Nat} {ln rx : Nat → Nat} {eg : Nat → Option Nat} {rr : Nat → Nat} {P P' : (Nat → Nat) → (Nat → Nat) → Prop} {m x : Nat} {up lw up' lw' : Nat → Nat}
theorem zq_Yle (h : zq_Y nd bk se wy ln rx eg rr P m x up lw) : x ≤ 1 := by
  rcases h.2.2 with h | h <;> omega
theorem zq_Yk (h : zq_Y nd bk se wy ln rx eg rr P m x up lw) (hp : P up lw → P' up lw) : zq_Y nd bk se wy ln rx eg rr P' m x up lw :=
  ⟨h.1, h.2.1, h.2.2.elim (fun a => Or.inl ⟨a.1, hp a.2⟩) Or.inr⟩
theorem zq_Ys (h : zq_Y nd bk se wy ln rx eg rr P m x up lw) (hX : zy_Y nd bk se wy ln rx eg rr up' lw') (hl : zm_mu 320 wy up lw < zm_mu 320 wy up' lw') : zq_Y nd bk se wy ln rx eg rr P' m 1 up' lw' :=
  ⟨hX, by have := h.2.1; omega, Or.inr ⟨rfl, by have := h.2.1; omega⟩⟩
end
section
variable {nd bk se wy wn wp ck : Nat} {hit mis : Int32} {rr up lw lu : Nat → Nat} {ry eg : Nat → Option Nat}
variable {ln rx : Nat → Nat}
theorem zv_155 {post : SY → Prop} {J40 J55 J86 J96 : Int32 → Int32 → (Nat → Int32) → (Nat → Int32) → (Nat → Int32) → (Nat → Int32) → (Nat → Int32) → (Nat → Int64) → Prop} {x2 x4 : Int32} {x n p b u l : Nat} (h8 : nd ≤ 8 ∧ bk ≤ 8) (hw : wy ≤ 4) (hn : n < nd) (hp : p ≤ 4) (hb : b < bk) (hub : ∀ j, j < 320 → up j ≤ wy ∧ lw j ≤ wy) (hu : u ≤ wy) (hl : l ≤ wy)
    (K0 : up ((n * 5 + p) * 8 + b) = u ∧ lw ((n * 5 + p) * 8 + b) = l → J96 (nI x) (nI (b + 1)) (zm_eo ry) (zm_eo eg) (zm_em rr) (zm_em up) (zm_em lw) (zm_eL lu))
    (K1 : ¬ (up ((n * 5 + p) * 8 + b) = u ∧ lw ((n * 5 + p) * 8 + b) = l) → J96 1 (nI (b + 1)) (zm_eo ry) (zm_eo eg) (zm_em rr) (zm_em (zm_up up ((n * 5 + p) * 8 + b) u)) (zm_em (zm_up lw ((n * 5 + p) * 8 + b) l)) (zm_eL lu)) :
      wY_solve_155 post J40 J55 J86 J96 (nI x) x2 (nI n) x4 (nI p) (nI b) (nI u) (nI l) (nI nd) (nI bk) (nI se) (nI wy) (nI wn) (nI wp) hit mis (lN ck) (zm_eo ry) (zm_eo eg) (zm_em rr) (zm_em up) (zm_em lw) (zm_eL lu) := by
  have b1 := hub ((n * 5 + p) * 8 + b) (by omega)
  by_cases e : up ((n * 5 + p) * 8 + b) = u
  · by_cases e2 : lw ((n * 5 + p) * 8 + b) = l
    · simp (disch := omega) only [wY_solve_155, wY_solve_195, forall_eq, zm_em_a, zm_eo_a, zm_eL_a, zm_oi_s, zm_oi_n, zm_em_u, zm_em_u0, zm_em_b0, zm_em_b1, zm_eo_u, zm_eo_un, zm_eL_u, zm_eL_u0, nI_clamp, nI_1, nI_add, zs_m2, zs_m4, zs_m5, zs_m8, zs_d2, zs_s1, zs_in, zs_leT, zs_leF, zs_ltT, zs_ltF, zs_eqT, zs_eqF, zs_m1e, zs_oe, zs_0lt, zs_e0T, zs_e0F, zs_2n, true_implies, forall_const, not_true_eq_false, not_false_eq_true, false_implies, and_true, true_and, implies_true, zs_l1T, zs_l1F, zs_l2T, zs_l2F, zs_l4T, zs_l4F, zs_l8T, zs_l8F, zs_l16T, zs_l16F, zs_l32T, zs_l32F, zs_l64T, zs_l64F, zs_l320T, zs_l320F, zs_l513T, zs_l513F, zs_l2561T, zs_l2561F, zs_t4T, zs_t4F, zs_e1T, zs_e1F, zs_nl0T, zs_nl0F, zs_nb, pk_rem, lN_1, zs_lleT, zs_lleF, zs_le0T, zs_le0F]
      exact K0 ⟨e, e2⟩
    · simp (disch := omega) only [wY_solve_155, wY_solve_195, forall_eq, zm_em_a, zm_eo_a, zm_eL_a, zm_oi_s, zm_oi_n, zm_em_u, zm_em_u0, zm_em_b0, zm_em_b1, zm_eo_u, zm_eo_un, zm_eL_u, zm_eL_u0, nI_clamp, nI_1, nI_add, zs_m2, zs_m4, zs_m5, zs_m8, zs_d2, zs_s1, zs_in, zs_leT, zs_leF, zs_ltT, zs_ltF, zs_eqT, zs_eqF, zs_m1e, zs_oe, zs_0lt, zs_e0T, zs_e0F, zs_2n, true_implies, forall_const, not_true_eq_false, not_false_eq_true, false_implies, and_true, true_and, implies_true, zs_l1T, zs_l1F, zs_l2T, zs_l2F, zs_l4T, zs_l4F, zs_l8T, zs_l8F, zs_l16T, zs_l16F, zs_l32T, zs_l32F, zs_l64T, zs_l64F, zs_l320T, zs_l320F, zs_l513T, zs_l513F, zs_l2561T, zs_l2561F, zs_t4T, zs_t4F, zs_e1T, zs_e1F, zs_nl0T, zs_nl0F, zs_nb, pk_rem, lN_1, zs_lleT, zs_lleF, zs_le0T, zs_le0F]
      exact K1 (fun z => e2 z.2)
  · simp (disch := omega) only [wY_solve_155, wY_solve_195, forall_eq, zm_em_a, zm_eo_a, zm_eL_a, zm_oi_s, zm_oi_n, zm_em_u, zm_em_u0, zm_em_b0, zm_em_b1, zm_eo_u, zm_eo_un, zm_eL_u, zm_eL_u0, nI_clamp, nI_1, nI_add, zs_m2, zs_m4, zs_m5, zs_m8, zs_d2, zs_s1, zs_in, zs_leT, zs_leF, zs_ltT, zs_ltF, zs_eqT, zs_eqF, zs_m1e, zs_oe, zs_0lt, zs_e0T, zs_e0F, zs_2n, true_implies, forall_const, not_true_eq_false, not_false_eq_true, false_implies, and_true, true_and, implies_true, zs_l1T, zs_l1F, zs_l2T, zs_l2F, zs_l4T, zs_l4F, zs_l8T, zs_l8F, zs_l16T, zs_l16F, zs_l32T, zs_l32F, zs_l64T, zs_l64F, zs_l320T, zs_l320F, zs_l513T, zs_l513F, zs_l2561T, zs_l2561F, zs_t4T, zs_t4F, zs_e1T, zs_e1F, zs_nl0T, zs_nl0F, zs_nb, pk_rem, lN_1, zs_lleT, zs_lleF, zs_le0T, zs_le0F]
    exact K1 (fun z => e z.1)
theorem zv_96 {post : SY → Prop} {J40 J55 J86 : Int32 → Int32 → (Nat → Int32) → (Nat → Int32) → (Nat → Int32) → (Nat → Int32) → (Nat → Int32) → (Nat → Int64) → Prop} {x2 x4 : Int32} {n p m : Nat} {H : (Nat → Nat) → (Nat → Nat) → Prop} (h8 : nd ≤ 8 ∧ bk ≤ 8) (hw : wy ≤ 4) (hse : 1 ≤ se ∧ se ≤ 4) (G : zp_G nd bk ln rx eg) (hy : zv_ry nd ln rx ry)
    (hrb : ∀ n, n < nd → rr n ≤ 1) (hR : ∀ n, n < nd → rr n ≠ 0 → zp_R nd eg n) (hn : n < nd) (hr : rr n ≠ 0) (hp : p ≤ ln n)
    (K : ∀ x (up lw : Nat → Nat), zq_Y nd bk se wy ln rx eg rr (fun u l => H u l ∧ ∀ b, b < bk → zy_E nd se wy ln rx eg rr u l n p b) m x up lw → J86 (nI x) (nI (p + 1)) (zm_eo ry) (zm_eo eg) (zm_em rr) (zm_em up) (zm_em lw) (zm_eL lu)) : ∀ f b x (up lw : Nat → Nat), b ≤ bk → bk - b < f →
      zq_Y nd bk se wy ln rx eg rr (fun u l => H u l ∧ ∀ c, c < b → zy_E nd se wy ln rx eg rr u l n p c) m x up lw →
      wY_solve_96 post J40 J55 J86 x2 (nI n) x4 (nI p) (nI nd) (nI bk) (nI se) (nI wy) (nI wn) (nI wp) hit mis (lN ck) f (nI x) (nI b) (zm_eo ry) (zm_eo eg) (zm_em rr) (zm_em up) (zm_em lw) (zm_eL lu) := by
  intro f
  induction f with
  | zero => intro b _ _ _ _ h; omega
  | succ f ih =>
    intro b x up lw hb hf I
    have l4 := G.1 n hn
    rcases Nat.lt_or_ge b bk with h | h
    · have hbd := I.1.1
      have K0 : up ((n * 5 + p) * 8 + b) = zy_FU nd se wy ln rx eg rr up n p b ∧ lw ((n * 5 + p) * 8 + b) = zy_FL nd se wy ln rx eg rr lw n p b → wY_solve_96 post J40 J55 J86 x2 (nI n) x4 (nI p) (nI nd) (nI bk) (nI se) (nI wy) (nI wn) (nI wp) hit mis (lN ck) f (nI x) (nI (b + 1)) (zm_eo ry) (zm_eo eg) (zm_em rr) (zm_em up) (zm_em lw) (zm_eL lu) := by
        intro he
        refine ih (b + 1) x up lw (by omega) (by omega) (zq_Yk I (fun hp => ⟨hp.1, fun c hc => ?_⟩))
        rcases Nat.lt_or_ge c b with z | z
        · exact hp.2 c z
        · have e : c = b := by omega
          rw [e]; exact he
      have K1 : ¬ (up ((n * 5 + p) * 8 + b) = zy_FU nd se wy ln rx eg rr up n p b ∧ lw ((n * 5 + p) * 8 + b) = zy_FL nd se wy ln rx eg rr lw n p b) → wY_solve_96 post J40 J55 J86 x2 (nI n) x4 (nI p) (nI nd) (nI bk) (nI se) (nI wy) (nI wn) (nI wp) hit mis (lN ck) f 1 (nI (b + 1)) (zm_eo ry) (zm_eo eg) (zm_em rr) (zm_em (zm_up up ((n * 5 + p) * 8 + b) (zy_FU nd se wy ln rx eg rr up n p b))) (zm_em (zm_up lw ((n * 5 + p) * 8 + b) (zy_FL nd se wy ln rx eg rr lw n p b))) (zm_eL lu) := by
        intro he
        exact ih (b + 1) 1 _ _ (by omega) (by omega) (zq_Ys I (zy_step G h8 hR I.1 hn hr hp h) (zy_step_mu G h8 I.1 hn hr hp h he))
      have uU := zy_FU_le (se := se) (rr := rr) G h8 (fun j hj => (hbd j hj).1) hn hp h
      have uL := zy_FL_le (se := se) (rr := rr) G h8 (fun j hj => (hbd j hj).2) hn hp h
      refine br_f (nI_ge h (by omega)) ?_
      by_cases e : p = 0
      · subst e
        refine br_t nI_0 (zv_FU0 h8 hw G hy hrb (fun j hj => (hbd j hj).1) hn h ?_)
        refine br_t nI_0 (zv_FL0 h8 hw G hy hrb (fun j hj => (hbd j hj).2) hn h ?_)
        exact zv_155 h8 hw hn (by omega) h hbd uU uL K0 K1
      · refine br_f (nI_ne0 (by omega) (by omega)) (zv_FU1 h8 hw hse G hy (fun j hj => (hbd j hj).1) hn hp e h ?_)
        refine br_f (nI_ne0 (by omega) (by omega)) (zv_FL1 h8 hw hse G hy (fun j hj => (hbd j hj).2) hn hp e h ?_)
        exact zv_155 h8 hw hn (by omega) h hbd uU uL K0 K1
    · have e : b = bk := by omega
      subst e
      simp (disch := omega) only [wY_solve_96, forall_eq, zm_em_a, zm_eo_a, zm_eL_a, zm_oi_s, zm_oi_n, zm_em_u, zm_em_u0, zm_em_b0, zm_em_b1, zm_eo_u, zm_eo_un, zm_eL_u, zm_eL_u0, nI_clamp, nI_1, nI_add, zs_m2, zs_m4, zs_m5, zs_m8, zs_d2, zs_s1, zs_in, zs_leT, zs_leF, zs_ltT, zs_ltF, zs_eqT, zs_eqF, zs_m1e, zs_oe, zs_0lt, zs_e0T, zs_e0F, zs_2n, true_implies, forall_const, not_true_eq_false, not_false_eq_true, false_implies, and_true, true_and, implies_true, zs_l1T, zs_l1F, zs_l2T, zs_l2F, zs_l4T, zs_l4F, zs_l8T, zs_l8F, zs_l16T, zs_l16F, zs_l32T, zs_l32F, zs_l64T, zs_l64F, zs_l320T, zs_l320F, zs_l513T, zs_l513F, zs_l2561T, zs_l2561F, zs_t4T, zs_t4F, zs_e1T, zs_e1F, zs_nl0T, zs_nl0F, zs_nb, pk_rem, lN_1, zs_lleT, zs_lleF, zs_le0T, zs_le0F]
      exact K x up lw I
theorem zv_86 {post : SY → Prop} {J40 J55 : Int32 → Int32 → (Nat → Int32) → (Nat → Int32) → (Nat → Int32) → (Nat → Int32) → (Nat → Int32) → (Nat → Int64) → Prop} {x2 : Int32} {n m : Nat} {H : (Nat → Nat) → (Nat → Nat) → Prop} (h8 : nd ≤ 8 ∧ bk ≤ 8) (hw : wy ≤ 4) (hse : 1 ≤ se ∧ se ≤ 4) (G : zp_G nd bk ln rx eg) (hy : zv_ry nd ln rx ry)
    (hrb : ∀ n, n < nd → rr n ≤ 1) (hR : ∀ n, n < nd → rr n ≠ 0 → zp_R nd eg n) (hn : n < nd) (hr : rr n ≠ 0)
    (K : ∀ x (up lw : Nat → Nat), zq_Y nd bk se wy ln rx eg rr (fun u l => H u l ∧ ∀ p, p ≤ ln n → ∀ b, b < bk → zy_E nd se wy ln rx eg rr u l n p b) m x up lw → J55 (nI x) (nI (n + 1)) (zm_eo ry) (zm_eo eg) (zm_em rr) (zm_em up) (zm_em lw) (zm_eL lu)) : ∀ f p x (up lw : Nat → Nat), p ≤ ln n + 1 → ln n + 1 - p < f →
      zq_Y nd bk se wy ln rx eg rr (fun u l => H u l ∧ ∀ c, c < p → ∀ b, b < bk → zy_E nd se wy ln rx eg rr u l n c b) m x up lw →
      wY_solve_86 post J40 J55 x2 (nI n) (nI (ln n)) (nI nd) (nI bk) (nI se) (nI wy) (nI wn) (nI wp) hit mis (lN ck) f (nI x) (nI p) (zm_eo ry) (zm_eo eg) (zm_em rr) (zm_em up) (zm_em lw) (zm_eL lu) := by
  intro f
  induction f with
  | zero => intro p _ _ _ _ h; omega
  | succ f ih =>
    intro p x up lw hp hf I
    have l4 := G.1 n hn
    rcases Nat.lt_or_ge (ln n) p with h | h
    · have e : p = ln n + 1 := by omega
      subst e
      simp (disch := omega) only [wY_solve_86, forall_eq, zm_em_a, zm_eo_a, zm_eL_a, zm_oi_s, zm_oi_n, zm_em_u, zm_em_u0, zm_em_b0, zm_em_b1, zm_eo_u, zm_eo_un, zm_eL_u, zm_eL_u0, nI_clamp, nI_1, nI_add, zs_m2, zs_m4, zs_m5, zs_m8, zs_d2, zs_s1, zs_in, zs_leT, zs_leF, zs_ltT, zs_ltF, zs_eqT, zs_eqF, zs_m1e, zs_oe, zs_0lt, zs_e0T, zs_e0F, zs_2n, true_implies, forall_const, not_true_eq_false, not_false_eq_true, false_implies, and_true, true_and, implies_true, zs_l1T, zs_l1F, zs_l2T, zs_l2F, zs_l4T, zs_l4F, zs_l8T, zs_l8F, zs_l16T, zs_l16F, zs_l32T, zs_l32F, zs_l64T, zs_l64F, zs_l320T, zs_l320F, zs_l513T, zs_l513F, zs_l2561T, zs_l2561F, zs_t4T, zs_t4F, zs_e1T, zs_e1F, zs_nl0T, zs_nl0F, zs_nb, pk_rem, lN_1, zs_lleT, zs_lleF, zs_le0T, zs_le0F]
      exact K x up lw (zq_Yk I (fun hp => ⟨hp.1, fun p hq => hp.2 p (by omega)⟩))
    · refine br_f (nI_nlt h (by omega)) ⟨9, ?_⟩
      refine zv_96 (H := fun u l => H u l ∧ ∀ c, c < p → ∀ b, b < bk → zy_E nd se wy ln rx eg rr u l n c b) (m := m) h8 hw hse G hy hrb hR hn hr h (fun x up lw I' => ?_) 9 0 x up lw (by omega) (by omega) (zq_Yk I (fun hp => ⟨hp, fun c hc => absurd hc (by omega)⟩))
      refine ih (p + 1) x up lw (by omega) (by omega) (zq_Yk I' (fun hp => ⟨hp.1.1, fun c hc => ?_⟩))
      rcases Nat.lt_or_ge c p with z | z
      · exact hp.1.2 c z
      · have e : c = p := by omega
        rw [e]; exact hp.2
theorem zv_55 {post : SY → Prop} {J40 : Int32 → Int32 → (Nat → Int32) → (Nat → Int32) → (Nat → Int32) → (Nat → Int32) → (Nat → Int32) → (Nat → Int64) → Prop} {k m : Nat} (h8 : nd ≤ 8 ∧ bk ≤ 8) (hw : wy ≤ 4) (hse : 1 ≤ se ∧ se ≤ 4) (G : zp_G nd bk ln rx eg) (hy : zv_ry nd ln rx ry)
    (hrb : ∀ n, n < nd → rr n ≤ 1) (hR : ∀ n, n < nd → rr n ≠ 0 → zp_R nd eg n)
    (K : ∀ x (up lw : Nat → Nat), zq_Y nd bk se wy ln rx eg rr (fun u l => ∀ n, n < nd → rr n ≠ 0 → ∀ p, p ≤ ln n → ∀ b, b < bk → zy_E nd se wy ln rx eg rr u l n p b) m x up lw → J40 (nI x) (nI (k + 1)) (zm_eo ry) (zm_eo eg) (zm_em rr) (zm_em up) (zm_em lw) (zm_eL lu)) : ∀ f n x (up lw : Nat → Nat), n ≤ nd → nd - n < f →
      zq_Y nd bk se wy ln rx eg rr (fun u l => ∀ c, c < n → rr c ≠ 0 → ∀ p, p ≤ ln c → ∀ b, b < bk → zy_E nd se wy ln rx eg rr u l c p b) m x up lw →
      wY_solve_55 post J40 (nI k) (nI nd) (nI bk) (nI se) (nI wy) (nI wn) (nI wp) hit mis (lN ck) f (nI x) (nI n) (zm_eo ry) (zm_eo eg) (zm_em rr) (zm_em up) (zm_em lw) (zm_eL lu) := by
  intro f
  induction f with
  | zero => intro p _ _ _ _ h; omega
  | succ f ih =>
    intro n x up lw hn hf I
    rcases Nat.lt_or_ge n nd with h | h
    · have hb := hrb n h
      have l4 := G.1 n h
      by_cases z : rr n = 0
      · simp (disch := omega) only [wY_solve_55, forall_eq, zm_em_a, zm_eo_a, zm_eL_a, zm_oi_s, zm_oi_n, zm_em_u, zm_em_u0, zm_em_b0, zm_em_b1, zm_eo_u, zm_eo_un, zm_eL_u, zm_eL_u0, nI_clamp, nI_1, nI_add, zs_m2, zs_m4, zs_m5, zs_m8, zs_d2, zs_s1, zs_in, zs_leT, zs_leF, zs_ltT, zs_ltF, zs_eqT, zs_eqF, zs_m1e, zs_oe, zs_0lt, zs_e0T, zs_e0F, zs_2n, true_implies, forall_const, not_true_eq_false, not_false_eq_true, false_implies, and_true, true_and, implies_true, zs_l1T, zs_l1F, zs_l2T, zs_l2F, zs_l4T, zs_l4F, zs_l8T, zs_l8F, zs_l16T, zs_l16F, zs_l32T, zs_l32F, zs_l64T, zs_l64F, zs_l320T, zs_l320F, zs_l513T, zs_l513F, zs_l2561T, zs_l2561F, zs_t4T, zs_t4F, zs_e1T, zs_e1F, zs_nl0T, zs_nl0F, zs_nb, pk_rem, lN_1, zs_lleT, zs_lleF, zs_le0T, zs_le0F]
        refine ⟨1, br_t (by decide) (nm_r (nI_1 n) ?_)⟩
        refine ih (n + 1) x up lw (by omega) (by omega) (zq_Yk I (fun hp c hc hrc => ?_))
        rcases Nat.lt_or_ge c n with q | q
        · exact hp c q hrc
        · have e : c = n := by omega
          rw [e] at hrc; exact absurd z hrc
      · simp (disch := omega) only [wY_solve_55, forall_eq, zm_em_a, zm_eo_a, zm_eL_a, zm_oi_s, zm_oi_n, zm_em_u, zm_em_u0, zm_em_b0, zm_em_b1, zm_eo_u, zm_eo_un, zm_eL_u, zm_eL_u0, nI_clamp, nI_1, nI_add, zs_m2, zs_m4, zs_m5, zs_m8, zs_d2, zs_s1, zs_in, zs_leT, zs_leF, zs_ltT, zs_ltF, zs_eqT, zs_eqF, zs_m1e, zs_oe, zs_0lt, zs_e0T, zs_e0F, zs_2n, true_implies, forall_const, not_true_eq_false, not_false_eq_true, false_implies, and_true, true_and, implies_true, zs_l1T, zs_l1F, zs_l2T, zs_l2F, zs_l4T, zs_l4F, zs_l8T, zs_l8F, zs_l16T, zs_l16F, zs_l32T, zs_l32F, zs_l64T, zs_l64F, zs_l320T, zs_l320F, zs_l513T, zs_l513F, zs_l2561T, zs_l2561F, zs_t4T, zs_t4F, zs_e1T, zs_e1F, zs_nl0T, zs_nl0F, zs_nb, pk_rem, lN_1, zs_lleT, zs_lleF, zs_le0T, zs_le0F]
        refine zv_len h8 G hy h ⟨6, ?_⟩
        refine zv_86 (m := m) (H := fun u l => ∀ c, c < n → rr c ≠ 0 → ∀ p, p ≤ ln c → ∀ b, b < bk → zy_E nd se wy ln rx eg rr u l c p b) h8 hw hse G hy hrb hR h z (fun x up lw I' => ?_) 6 0 x up lw (by omega) (by omega) (zq_Yk I (fun hp => ⟨hp, fun c hc => absurd hc (by omega)⟩))
        refine ih (n + 1) x up lw (by omega) (by omega) (zq_Yk I' (fun hp c hc hrc => ?_))
        rcases Nat.lt_or_ge c n with q | q
        · exact hp.1 c q hrc
        · have e : c = n := by omega
          rw [e]; exact hp.2
    · have e : n = nd := by omega
      subst e
      simp (disch := omega) only [wY_solve_55, forall_eq, zm_em_a, zm_eo_a, zm_eL_a, zm_oi_s, zm_oi_n, zm_em_u, zm_em_u0, zm_em_b0, zm_em_b1, zm_eo_u, zm_eo_un, zm_eL_u, zm_eL_u0, nI_clamp, nI_1, nI_add, zs_m2, zs_m4, zs_m5, zs_m8, zs_d2, zs_s1, zs_in, zs_leT, zs_leF, zs_ltT, zs_ltF, zs_eqT, zs_eqF, zs_m1e, zs_oe, zs_0lt, zs_e0T, zs_e0F, zs_2n, true_implies, forall_const, not_true_eq_false, not_false_eq_true, false_implies, and_true, true_and, implies_true, zs_l1T, zs_l1F, zs_l2T, zs_l2F, zs_l4T, zs_l4F, zs_l8T, zs_l8F, zs_l16T, zs_l16F, zs_l32T, zs_l32F, zs_l64T, zs_l64F, zs_l320T, zs_l320F, zs_l513T, zs_l513F, zs_l2561T, zs_l2561F, zs_t4T, zs_t4F, zs_e1T, zs_e1F, zs_nl0T, zs_nl0F, zs_nb, pk_rem, lN_1, zs_lleT, zs_lleF, zs_le0T, zs_le0F]
      exact K x up lw I
theorem zv_40 {post : SY → Prop} (h8 : nd ≤ 8 ∧ bk ≤ 8) (hw : wy ≤ 4) (hse : 1 ≤ se ∧ se ≤ 4) (G : zp_G nd bk ln rx eg) (hy : zv_ry nd ln rx ry)
    (hrb : ∀ n, n < nd → rr n ≤ 1) (hR : ∀ n, n < nd → rr n ≠ 0 → zp_R nd eg n)
    (K : ∀ up lw : Nat → Nat, zy_Y nd bk se wy ln rx eg rr up lw → (∀ n, n < nd → rr n ≠ 0 → ∀ p, p ≤ ln n → ∀ b, b < bk → zy_E nd se wy ln rx eg rr up lw n p b) → post (nI nd, nI bk, nI se, nI wy, nI wn, nI wp, hit, mis, lN ck, zm_eo ry, zm_eo eg, zm_em rr, zm_em up, zm_em lw, zm_eL lu)) : ∀ f k x (up lw : Nat → Nat), k ≤ 2561 → 2561 - k < f → zy_Y nd bk se wy ln rx eg rr up lw →
      ((x = 0 ∧ ∀ n, n < nd → rr n ≠ 0 → ∀ p, p ≤ ln n → ∀ b, b < bk → zy_E nd se wy ln rx eg rr up lw n p b) ∨ (x = 1 ∧ k ≤ zm_mu 320 wy up lw)) →
      wY_solve_40 post (nI nd) (nI bk) (nI se) (nI wy) (nI wn) (nI wp) hit mis (lN ck) f (nI x) (nI k) (zm_eo ry) (zm_eo eg) (zm_em rr) (zm_em up) (zm_em lw) (zm_eL lu) := by
  intro f
  induction f with
  | zero => intro p _ _ _ _ h; omega
  | succ f ih =>
    intro k x up lw hk hf hX hd
    rcases hd with ⟨rfl, hd⟩ | ⟨rfl, hd⟩
    · rcases Nat.lt_or_ge k 2561 with h | h
      · simp (disch := omega) only [wY_solve_40, forall_eq, zm_em_a, zm_eo_a, zm_eL_a, zm_oi_s, zm_oi_n, zm_em_u, zm_em_u0, zm_em_b0, zm_em_b1, zm_eo_u, zm_eo_un, zm_eL_u, zm_eL_u0, nI_clamp, nI_1, nI_add, zs_m2, zs_m4, zs_m5, zs_m8, zs_d2, zs_s1, zs_in, zs_leT, zs_leF, zs_ltT, zs_ltF, zs_eqT, zs_eqF, zs_m1e, zs_oe, zs_0lt, zs_e0T, zs_e0F, zs_2n, true_implies, forall_const, not_true_eq_false, not_false_eq_true, false_implies, and_true, true_and, implies_true, zs_l1T, zs_l1F, zs_l2T, zs_l2F, zs_l4T, zs_l4F, zs_l8T, zs_l8F, zs_l16T, zs_l16F, zs_l32T, zs_l32F, zs_l64T, zs_l64F, zs_l320T, zs_l320F, zs_l513T, zs_l513F, zs_l2561T, zs_l2561F, zs_t4T, zs_t4F, zs_e1T, zs_e1F, zs_nl0T, zs_nl0F, zs_nb, pk_rem, lN_1, zs_lleT, zs_lleF, zs_le0T, zs_le0F]
        exact K up lw hX hd
      · simp (disch := omega) only [wY_solve_40, forall_eq, zm_em_a, zm_eo_a, zm_eL_a, zm_oi_s, zm_oi_n, zm_em_u, zm_em_u0, zm_em_b0, zm_em_b1, zm_eo_u, zm_eo_un, zm_eL_u, zm_eL_u0, nI_clamp, nI_1, nI_add, zs_m2, zs_m4, zs_m5, zs_m8, zs_d2, zs_s1, zs_in, zs_leT, zs_leF, zs_ltT, zs_ltF, zs_eqT, zs_eqF, zs_m1e, zs_oe, zs_0lt, zs_e0T, zs_e0F, zs_2n, true_implies, forall_const, not_true_eq_false, not_false_eq_true, false_implies, and_true, true_and, implies_true, zs_l1T, zs_l1F, zs_l2T, zs_l2F, zs_l4T, zs_l4F, zs_l8T, zs_l8F, zs_l16T, zs_l16F, zs_l32T, zs_l32F, zs_l64T, zs_l64F, zs_l320T, zs_l320F, zs_l513T, zs_l513F, zs_l2561T, zs_l2561F, zs_t4T, zs_t4F, zs_e1T, zs_e1F, zs_nl0T, zs_nl0F, zs_nb, pk_rem, lN_1, zs_lleT, zs_lleF, zs_le0T, zs_le0F]
        exact K up lw hX hd
    · have hmu := zm_mu_le (m := 320) (wy := wy) (g := lw) (fun j hj => (hX.1 j hj).1)
      have h : k < 2561 := by omega
      simp (disch := omega) only [wY_solve_40, forall_eq, zm_em_a, zm_eo_a, zm_eL_a, zm_oi_s, zm_oi_n, zm_em_u, zm_em_u0, zm_em_b0, zm_em_b1, zm_eo_u, zm_eo_un, zm_eL_u, zm_eL_u0, nI_clamp, nI_1, nI_add, zs_m2, zs_m4, zs_m5, zs_m8, zs_d2, zs_s1, zs_in, zs_leT, zs_leF, zs_ltT, zs_ltF, zs_eqT, zs_eqF, zs_m1e, zs_oe, zs_0lt, zs_e0T, zs_e0F, zs_2n, true_implies, forall_const, not_true_eq_false, not_false_eq_true, false_implies, and_true, true_and, implies_true, zs_l1T, zs_l1F, zs_l2T, zs_l2F, zs_l4T, zs_l4F, zs_l8T, zs_l8F, zs_l16T, zs_l16F, zs_l32T, zs_l32F, zs_l64T, zs_l64F, zs_l320T, zs_l320F, zs_l513T, zs_l513F, zs_l2561T, zs_l2561F, zs_t4T, zs_t4F, zs_e1T, zs_e1F, zs_nl0T, zs_nl0F, zs_nb, pk_rem, lN_1, zs_lleT, zs_lleF, zs_le0T, zs_le0F]
      exact ⟨9, zv_55 (m := k) h8 hw hse G hy hrb hR (fun x up lw I => ih (k + 1) x up lw (by omega) (by omega) I.1 (I.2.2.elim Or.inl Or.inr)) 9 0 0 up lw (by omega) (by omega) ⟨hX, hd, Or.inl ⟨rfl, fun c hc => absurd hc (by omega)⟩⟩⟩
theorem zv_6 {post : SY → Prop} (h8 : nd ≤ 8 ∧ bk ≤ 8) (hw : wy ≤ 4) (hse : 1 ≤ se ∧ se ≤ 4) (G : zp_G nd bk ln rx eg) (hy : zv_ry nd ln rx ry)
    (hrb : ∀ n, n < nd → rr n ≤ 1) (hR : ∀ n, n < nd → rr n ≠ 0 → zp_R nd eg n)
    (K : ∀ up lw : Nat → Nat, zy_Y nd bk se wy ln rx eg rr up lw → (∀ n, n < nd → rr n ≠ 0 → ∀ p, p ≤ ln n → ∀ b, b < bk → zy_E nd se wy ln rx eg rr up lw n p b) → post (nI nd, nI bk, nI se, nI wy, nI wn, nI wp, hit, mis, lN ck, zm_eo ry, zm_eo eg, zm_em rr, zm_em up, zm_em lw, zm_eL lu)) : ∀ f i (up lw : Nat → Nat), i ≤ 320 → 320 - i < f → (∀ j, j < i → up j = 0) → (∀ j, j < i → lw j = wy) →
      wY_solve_6 post (nI nd) (nI bk) (nI se) (nI wy) (nI wn) (nI wp) hit mis (lN ck) f (nI i) (zm_eo ry) (zm_eo eg) (zm_em rr) (zm_em up) (zm_em lw) (zm_eL lu) := by
  intro f
  induction f with
  | zero => intro p _ _ _ h; omega
  | succ f ih =>
    intro i up lw hi hf hu hl
    rcases Nat.lt_or_ge i 320 with h | h
    · simp (disch := omega) only [wY_solve_6, forall_eq, zm_em_a, zm_eo_a, zm_eL_a, zm_oi_s, zm_oi_n, zm_em_u, zm_em_u0, zm_em_b0, zm_em_b1, zm_eo_u, zm_eo_un, zm_eL_u, zm_eL_u0, nI_clamp, nI_1, nI_add, zs_m2, zs_m4, zs_m5, zs_m8, zs_d2, zs_s1, zs_in, zs_leT, zs_leF, zs_ltT, zs_ltF, zs_eqT, zs_eqF, zs_m1e, zs_oe, zs_0lt, zs_e0T, zs_e0F, zs_2n, true_implies, forall_const, not_true_eq_false, not_false_eq_true, false_implies, and_true, true_and, implies_true, zs_l1T, zs_l1F, zs_l2T, zs_l2F, zs_l4T, zs_l4F, zs_l8T, zs_l8F, zs_l16T, zs_l16F, zs_l32T, zs_l32F, zs_l64T, zs_l64F, zs_l320T, zs_l320F, zs_l513T, zs_l513F, zs_l2561T, zs_l2561F, zs_t4T, zs_t4F, zs_e1T, zs_e1F, zs_nl0T, zs_nl0F, zs_nb, pk_rem, lN_1, zs_lleT, zs_lleF, zs_le0T, zs_le0F]
      exact ih (i + 1) _ _ (by omega) (by omega) (zm_upP (P := fun _ x => x = 0) hu rfl) (zm_upP (P := fun _ x => x = wy) hl rfl)
    · have e : i = 320 := by omega
      subst e
      simp (disch := omega) only [wY_solve_6, forall_eq, zm_em_a, zm_eo_a, zm_eL_a, zm_oi_s, zm_oi_n, zm_em_u, zm_em_u0, zm_em_b0, zm_em_b1, zm_eo_u, zm_eo_un, zm_eL_u, zm_eL_u0, nI_clamp, nI_1, nI_add, zs_m2, zs_m4, zs_m5, zs_m8, zs_d2, zs_s1, zs_in, zs_leT, zs_leF, zs_ltT, zs_ltF, zs_eqT, zs_eqF, zs_m1e, zs_oe, zs_0lt, zs_e0T, zs_e0F, zs_2n, true_implies, forall_const, not_true_eq_false, not_false_eq_true, false_implies, and_true, true_and, implies_true, zs_l1T, zs_l1F, zs_l2T, zs_l2F, zs_l4T, zs_l4F, zs_l8T, zs_l8F, zs_l16T, zs_l16F, zs_l32T, zs_l32F, zs_l64T, zs_l64F, zs_l320T, zs_l320F, zs_l513T, zs_l513F, zs_l2561T, zs_l2561F, zs_t4T, zs_t4F, zs_e1T, zs_e1F, zs_nl0T, zs_nl0F, zs_nb, pk_rem, lN_1, zs_lleT, zs_lleF, zs_le0T, zs_le0F]
      have Y0 : zy_Y nd bk se wy ln rx eg rr up lw := by
        have hlw : ∀ j, j < 320 → lw j ≤ wy := fun j hj => by rw [hl j hj]; exact Nat.le_refl _
        refine ⟨fun j hj => ⟨by rw [hu j hj]; exact Nat.zero_le _, hlw j hj⟩, fun n hn _ p hp b hb => ?_, fun Q hQ n hn _ p hp b hb => ?_, fun Q hQ n hn _ p hp b hb => ?_⟩
        · have l4 := G.1 n hn
          refine ⟨?_, ?_⟩
          · rw [hu _ (by omega)]; exact Nat.zero_le _
          · rw [hl _ (by omega)]; exact zy_FL_le G h8 hlw hn hp hb
        · have l4 := G.1 n hn
          rw [hu _ (by omega)]; exact Nat.zero_le _
        · have l4 := G.1 n hn
          rw [hl _ (by omega)]
          exact zp_sL_le (bk := bk) (fun b hb => hQ.1 n hn b hb) p b hb
      exact ⟨2562, zv_40 h8 hw hse G hy hrb hR K 2562 0 1 up lw (by omega) (by omega) Y0 (Or.inr ⟨rfl, Nat.zero_le _⟩)⟩
/-- the reference's bounds are the ones that both sides answer -/
def zv_A (nd bk se wy : Nat) (ln rx : Nat → Nat) (eg : Nat → Option Nat) (rr up lw : Nat → Nat) : Prop :=
  (∀ n, n < nd → rr n ≤ 1) ∧ (∀ n, n < nd → (rr n ≠ 0 ↔ zp_R nd eg n)) ∧ (∀ j, j < 320 → up j ≤ wy ∧ lw j ≤ wy) ∧
  ∀ n, n < nd → rr n ≠ 0 → ∀ p, p ≤ ln n → ∀ b, b < bk → up ((n * 5 + p) * 8 + b) = zp_vU nd bk se wy ln rx eg n p b ∧ lw ((n * 5 + p) * 8 + b) = zp_vL nd bk se wy ln rx eg n p b
theorem zv_solve {post : SY → Prop} (H : zp_H nd bk se wy ln rx eg) (hy : zv_ry nd ln rx ry)
    (K : ∀ rr up lw : Nat → Nat, zv_A nd bk se wy ln rx eg rr up lw → post (nI nd, nI bk, nI se, nI wy, nI wn, nI wp, hit, mis, lN ck, zm_eo ry, zm_eo eg, zm_em rr, zm_em up, zm_em lw, zm_eL lu)) : wpY_solve post (nI nd, nI bk, nI se, nI wy, nI wn, nI wp, hit, mis, lN ck, zm_eo ry, zm_eo eg, zm_em rr, zm_em up, zm_em lw, zm_eL lu) := by
  obtain ⟨h1, h2, h3, h4, G⟩ := H
  unfold wpY_solve
  refine zv_findReached h1.1 h1.2 G.2.2 (fun r hrb hr => ?_)
  refine ⟨321, zv_6 (rr := r) ⟨h1.2, h2.2⟩ h4.2 h3 G hy hrb (fun n hn => (hr n hn).mp) (fun up lw Y0 hE => ?_) 321 0 up lw (by omega) (by omega) (fun j hj => absurd hj (by omega)) (fun j hj => absurd hj (by omega))⟩
  exact K r up lw ⟨hrb, hr, Y0.1, zy_fin G ⟨h1.2, h2.2⟩ h1.1 hr Y0 hE⟩
end
end
section
/-! the reference: questions about the bounds -/
section
variable {nd bk se wy wn wp ck : Nat} {hit mis : Int32} {rr up lw lu : Nat → Nat} {ry eg : Nat → Option Nat}
variable {ln rx : Nat → Nat}
theorem zv_lookF {post : Int32 → SY → Prop} {v1 v2 v3 : Int32} (H : zp_H nd bk se wy ln rx eg) (hy : zv_ry nd ln rx ry) (hb : zp_bad nd bk ln v1 v2 v3) (K : post (-2) (nI nd, nI bk, nI se, nI wy, nI wn, nI wp, hit, mis, lN ck, zm_eo ry, zm_eo eg, zm_em rr, zm_em up, zm_em lw, zm_eL lu)) : wpY_look post (nI nd, nI bk, nI se, nI wy, nI wn, nI wp, hit, mis, lN ck, zm_eo ry, zm_eo eg, zm_em rr, zm_em up, zm_em lw, zm_eL lu) v1 v2 v3 := by
  obtain ⟨h1, h2, -, -, G⟩ := H
  unfold wpY_look
  try dsimp only
  rcases hb with hb | ⟨n, hn, rfl, hb⟩
  · exact zv_nodeF h1.2 hb (br_f (by decide) K)
  · refine zv_nodeT hn h1.2 (br_t rfl ?_)
    have h4 := G.1 n hn
    rcases hb with hb | ⟨q, hq, rfl, hb⟩
    · exact br_t hb K
    · refine br_f (nI_pos hq) (zv_len ⟨h1.2, h2.2⟩ G hy hn ?_)
      rcases hb with hb | ⟨hb, hc⟩
      · exact br_t (nI_lt hb hq) K
      · refine br_f (nI_nlt hb (by omega)) ?_
        rcases hc with hc | hc
        · exact br_t hc K
        · exact br_f (zs_hi (by omega) hc) (br_f (zs_nlt hc) K)
theorem zv_lookT {post : Int32 → SY → Prop} {n q b : Nat} (H : zp_H nd bk se wy ln rx eg) (hy : zv_ry nd ln rx ry) (hn : n < nd) (hq : q ≤ ln n) (hb : b < bk)
    (K4 : ¬ zp_R nd eg n → ∀ rr up lw : Nat → Nat, post (-4) (nI nd, nI bk, nI se, nI wy, nI wn, nI wp, hit, mis, lN ck, zm_eo ry, zm_eo eg, zm_em rr, zm_em up, zm_em lw, zm_eL lu))
    (K0 : zp_R nd eg n → ∀ rr up lw : Nat → Nat, zv_A nd bk se wy ln rx eg rr up lw → rr n ≠ 0 → post 0 (nI nd, nI bk, nI se, nI wy, nI wn, nI wp, hit, mis, lN ck, zm_eo ry, zm_eo eg, zm_em rr, zm_em up, zm_em lw, zm_eL lu)) : wpY_look post (nI nd, nI bk, nI se, nI wy, nI wn, nI wp, hit, mis, lN ck, zm_eo ry, zm_eo eg, zm_em rr, zm_em up, zm_em lw, zm_eL lu) (nI n) (nI q) (nI b) := by
  have H' := H
  obtain ⟨h1, h2, h3, h4, G⟩ := H
  have l4 := G.1 n hn
  unfold wpY_look
  try dsimp only
  refine zv_nodeT hn h1.2 (br_t rfl (br_f (nI_pos (by omega)) (zv_len ⟨h1.2, h2.2⟩ G hy hn ?_)))
  refine br_f (nI_nlt hq (by omega)) (br_f (nI_pos (by omega)) (br_t (nI_lt hb (by omega)) ?_))
  refine zv_solve H' hy (fun rr up lw A => ?_)
  refine ⟨vp_in_nI (by omega) (by decide), ?_⟩
  dsimp only
  rw [nI_clamp (show n < 2 ^ 31 by omega), zm_em_a]
  have hrb := A.1 n hn
  by_cases hr : rr n = 0
  · exact br_t (by rw [hr]; exact nI_0) (K4 (fun hR => (A.2.1 n hn).mpr hR hr) rr up lw)
  · exact br_f (nI_ne0 (by omega) (by omega)) (K0 ((A.2.1 n hn).mp hr) rr up lw A hr)
theorem zv_classOf {post : Int32 → Prop} {n q : Nat} (H : zp_H nd bk se wy ln rx eg) (hy : zv_ry nd ln rx ry) (A : zv_A nd bk se wy ln rx eg rr up lw) (hn : n < nd) (hq : q < ln n) (K : post (zp_cls nd bk se wy ln rx eg n q)) : wpY_classOf post (nI nd, nI bk, nI se, nI wy, nI wn, nI wp, hit, mis, lN ck, zm_eo ry, zm_eo eg, zm_em rr, zm_em up, zm_em lw, zm_eL lu) (nI n) (nI q) := by
  obtain ⟨h1, h2, h3, h4, G⟩ := H
  have l4 := G.1 n hn
  have hc := G.2.1 n hn q hq
  have hrb := A.1 n hn
  have e := hy n hn q (by omega)
  rw [if_pos hq] at e
  by_cases hr : rr n = 0
  · rw [zp_cls_n (fun hR => (A.2.1 n hn).mpr hR hr)] at K
    simp (disch := omega) only [wpY_classOf, forall_eq, zm_em_a, zm_eo_a, zm_eL_a, zm_oi_s, zm_oi_n, zm_em_u, zm_em_u0, zm_em_b0, zm_em_b1, zm_eo_u, zm_eo_un, zm_eL_u, zm_eL_u0, nI_clamp, nI_1, nI_add, zs_m2, zs_m4, zs_m5, zs_m8, zs_d2, zs_s1, zs_in, zs_leT, zs_leF, zs_ltT, zs_ltF, zs_eqT, zs_eqF, zs_m1e, zs_oe, zs_0lt, zs_e0T, zs_e0F, zs_2n, true_implies, forall_const, not_true_eq_false, not_false_eq_true, false_implies, and_true, true_and, implies_true, zs_l1T, zs_l1F, zs_l2T, zs_l2F, zs_l4T, zs_l4F, zs_l8T, zs_l8F, zs_l16T, zs_l16F, zs_l32T, zs_l32F, zs_l64T, zs_l64F, zs_l320T, zs_l320F, zs_l513T, zs_l513F, zs_l2561T, zs_l2561F, zs_t4T, zs_t4F, zs_e1T, zs_e1F, zs_nl0T, zs_nl0F, zs_nb, pk_rem, lN_1, zs_lleT, zs_lleF, zs_le0T, zs_le0F]
    exact K
  · have hR := (A.2.1 n hn).mp hr
    obtain ⟨eu, el⟩ := A.2.2.2 n hn hr q (by omega) _ hc
    have hbd := A.2.2.1 ((n * 5 + q) * 8 + rx (n * 4 + q)) (by omega)
    by_cases a1 : zp_vU nd bk se wy ln rx eg n q (rx (n * 4 + q)) < wy
    · rw [zp_cls_1 hR a1] at K
      simp (disch := omega) only [wpY_classOf, e, forall_eq, zm_em_a, zm_eo_a, zm_eL_a, zm_oi_s, zm_oi_n, zm_em_u, zm_em_u0, zm_em_b0, zm_em_b1, zm_eo_u, zm_eo_un, zm_eL_u, zm_eL_u0, nI_clamp, nI_1, nI_add, zs_m2, zs_m4, zs_m5, zs_m8, zs_d2, zs_s1, zs_in, zs_leT, zs_leF, zs_ltT, zs_ltF, zs_eqT, zs_eqF, zs_m1e, zs_oe, zs_0lt, zs_e0T, zs_e0F, zs_2n, true_implies, forall_const, not_true_eq_false, not_false_eq_true, false_implies, and_true, true_and, implies_true, zs_l1T, zs_l1F, zs_l2T, zs_l2F, zs_l4T, zs_l4F, zs_l8T, zs_l8F, zs_l16T, zs_l16F, zs_l32T, zs_l32F, zs_l64T, zs_l64F, zs_l320T, zs_l320F, zs_l513T, zs_l513F, zs_l2561T, zs_l2561F, zs_t4T, zs_t4F, zs_e1T, zs_e1F, zs_nl0T, zs_nl0F, zs_nb, pk_rem, lN_1, zs_lleT, zs_lleF, zs_le0T, zs_le0F]
      exact K
    · by_cases a2 : zp_vL nd bk se wy ln rx eg n q (rx (n * 4 + q)) = wy
      · rw [zp_cls_2 hR a1 a2] at K
        simp (disch := omega) only [wpY_classOf, e, forall_eq, zm_em_a, zm_eo_a, zm_eL_a, zm_oi_s, zm_oi_n, zm_em_u, zm_em_u0, zm_em_b0, zm_em_b1, zm_eo_u, zm_eo_un, zm_eL_u, zm_eL_u0, nI_clamp, nI_1, nI_add, zs_m2, zs_m4, zs_m5, zs_m8, zs_d2, zs_s1, zs_in, zs_leT, zs_leF, zs_ltT, zs_ltF, zs_eqT, zs_eqF, zs_m1e, zs_oe, zs_0lt, zs_e0T, zs_e0F, zs_2n, true_implies, forall_const, not_true_eq_false, not_false_eq_true, false_implies, and_true, true_and, implies_true, zs_l1T, zs_l1F, zs_l2T, zs_l2F, zs_l4T, zs_l4F, zs_l8T, zs_l8F, zs_l16T, zs_l16F, zs_l32T, zs_l32F, zs_l64T, zs_l64F, zs_l320T, zs_l320F, zs_l513T, zs_l513F, zs_l2561T, zs_l2561F, zs_t4T, zs_t4F, zs_e1T, zs_e1F, zs_nl0T, zs_nl0F, zs_nb, pk_rem, lN_1, zs_lleT, zs_lleF, zs_le0T, zs_le0F]
        exact K
      · rw [zp_cls_3 hR a1 a2] at K
        simp (disch := omega) only [wpY_classOf, e, forall_eq, zm_em_a, zm_eo_a, zm_eL_a, zm_oi_s, zm_oi_n, zm_em_u, zm_em_u0, zm_em_b0, zm_em_b1, zm_eo_u, zm_eo_un, zm_eL_u, zm_eL_u0, nI_clamp, nI_1, nI_add, zs_m2, zs_m4, zs_m5, zs_m8, zs_d2, zs_s1, zs_in, zs_leT, zs_leF, zs_ltT, zs_ltF, zs_eqT, zs_eqF, zs_m1e, zs_oe, zs_0lt, zs_e0T, zs_e0F, zs_2n, true_implies, forall_const, not_true_eq_false, not_false_eq_true, false_implies, and_true, true_and, implies_true, zs_l1T, zs_l1F, zs_l2T, zs_l2F, zs_l4T, zs_l4F, zs_l8T, zs_l8F, zs_l16T, zs_l16F, zs_l32T, zs_l32F, zs_l64T, zs_l64F, zs_l320T, zs_l320F, zs_l513T, zs_l513F, zs_l2561T, zs_l2561F, zs_t4T, zs_t4F, zs_e1T, zs_e1F, zs_nl0T, zs_nl0F, zs_nb, pk_rem, lN_1, zs_lleT, zs_lleF, zs_le0T, zs_le0F]
        exact K
theorem zv_clsF {post : Int32 → SY → Prop} {v1 v2 : Int32} (H : zp_H nd bk se wy ln rx eg) (hy : zv_ry nd ln rx ry) (hb : zp_bad2 nd ln v1 v2) (K : post (-2) (nI nd, nI bk, nI se, nI wy, nI wn, nI wp, hit, mis, lN ck, zm_eo ry, zm_eo eg, zm_em rr, zm_em up, zm_em lw, zm_eL lu)) : wpY_classify post (nI nd, nI bk, nI se, nI wy, nI wn, nI wp, hit, mis, lN ck, zm_eo ry, zm_eo eg, zm_em rr, zm_em up, zm_em lw, zm_eL lu) v1 v2 := by
  obtain ⟨h1, h2, -, -, G⟩ := H
  unfold wpY_classify
  try dsimp only
  rcases hb with hb | ⟨n, hn, rfl, hb⟩
  · exact zv_nodeF h1.2 hb (br_f (by decide) K)
  · refine zv_nodeT hn h1.2 (br_t rfl ?_)
    have h4 := G.1 n hn
    rcases hb with hb | ⟨q, hq, rfl, hb⟩
    · exact br_t hb K
    · exact br_f (nI_pos hq) (zv_len ⟨h1.2, h2.2⟩ G hy hn (br_f (nI_nlt hb hq) K))
theorem zv_clsT {post : Int32 → SY → Prop} {n q : Nat} (H : zp_H nd bk se wy ln rx eg) (hy : zv_ry nd ln rx ry) (hn : n < nd) (hq : q < ln n) (K : ∀ rr up lw : Nat → Nat, post (zp_cls nd bk se wy ln rx eg n q) (nI nd, nI bk, nI se, nI wy, nI wn, nI wp, hit, mis, lN ck, zm_eo ry, zm_eo eg, zm_em rr, zm_em up, zm_em lw, zm_eL lu)) : wpY_classify post (nI nd, nI bk, nI se, nI wy, nI wn, nI wp, hit, mis, lN ck, zm_eo ry, zm_eo eg, zm_em rr, zm_em up, zm_em lw, zm_eL lu) (nI n) (nI q) := by
  have H' := H
  obtain ⟨h1, h2, -, -, G⟩ := H
  have l4 := G.1 n hn
  unfold wpY_classify
  try dsimp only
  refine zv_nodeT hn h1.2 (br_t rfl (br_f (nI_pos (by omega)) (zv_len ⟨h1.2, h2.2⟩ G hy hn (br_t (nI_lt hq (by omega)) ?_))))
  refine zv_solve H' hy (fun rr up lw A => ?_)
  exact zv_classOf H' hy A hn hq (K rr up lw)
theorem zv_c50 {post : Int32 → SY → Prop} {J32 : Int32 → Int32 → Prop} {kv t : Int32} {n : Nat} (H : zp_H nd bk se wy ln rx eg) (hy : zv_ry nd ln rx ry) (A : zv_A nd bk se wy ln rx eg rr up lw) (hn : n < nd)
    (K : J32 (zp_ci (zp_cls nd bk se wy ln rx eg) kv n t (ln n)) (nI (n + 1))) : ∀ f p x, p ≤ ln n → ln n - p < f → x = zp_ci (zp_cls nd bk se wy ln rx eg) kv n t p →
      wY_count_50 post J32 kv (nI n) (nI (ln n)) (nI nd) (nI bk) (nI se) (nI wy) (nI wn) (nI wp) hit mis (lN ck) (zm_eo ry) (zm_eo eg) (zm_em rr) (zm_em up) (zm_em lw) (zm_eL lu) f x (nI p) := by
  intro f
  induction f with
  | zero => intro p _ _ h; omega
  | succ f ih =>
    intro p x hp hf hx
    have h8 := H.1
    have l4 := H.2.2.2.2.1 n hn
    rcases Nat.lt_or_ge p (ln n) with h | h
    · simp (disch := omega) only [wY_count_50, forall_eq, zm_em_a, zm_eo_a, zm_eL_a, zm_oi_s, zm_oi_n, zm_em_u, zm_em_u0, zm_em_b0, zm_em_b1, zm_eo_u, zm_eo_un, zm_eL_u, zm_eL_u0, nI_clamp, nI_1, nI_add, zs_m2, zs_m4, zs_m5, zs_m8, zs_d2, zs_s1, zs_in, zs_leT, zs_leF, zs_ltT, zs_ltF, zs_eqT, zs_eqF, zs_m1e, zs_oe, zs_0lt, zs_e0T, zs_e0F, zs_2n, true_implies, forall_const, not_true_eq_false, not_false_eq_true, false_implies, and_true, true_and, implies_true, zs_l1T, zs_l1F, zs_l2T, zs_l2F, zs_l4T, zs_l4F, zs_l8T, zs_l8F, zs_l16T, zs_l16F, zs_l32T, zs_l32F, zs_l64T, zs_l64F, zs_l320T, zs_l320F, zs_l513T, zs_l513F, zs_l2561T, zs_l2561F, zs_t4T, zs_t4F, zs_e1T, zs_e1F, zs_nl0T, zs_nl0F, zs_nb, pk_rem, lN_1, zs_lleT, zs_lleF, zs_le0T, zs_le0F]
      refine zv_classOf H hy A hn h ?_
      by_cases e : zp_cls nd bk se wy ln rx eg n p = kv
      · exact br_t e (ih (p + 1) _ (by omega) (by omega) (by rw [zp_ci, if_pos e, hx]))
      · exact br_f e (ih (p + 1) _ (by omega) (by omega) (by rw [zp_ci, if_neg e, hx]))
    · have e : p = ln n := by omega
      subst e
      simp (disch := omega) only [wY_count_50, hx, forall_eq, zm_em_a, zm_eo_a, zm_eL_a, zm_oi_s, zm_oi_n, zm_em_u, zm_em_u0, zm_em_b0, zm_em_b1, zm_eo_u, zm_eo_un, zm_eL_u, zm_eL_u0, nI_clamp, nI_1, nI_add, zs_m2, zs_m4, zs_m5, zs_m8, zs_d2, zs_s1, zs_in, zs_leT, zs_leF, zs_ltT, zs_ltF, zs_eqT, zs_eqF, zs_m1e, zs_oe, zs_0lt, zs_e0T, zs_e0F, zs_2n, true_implies, forall_const, not_true_eq_false, not_false_eq_true, false_implies, and_true, true_and, implies_true, zs_l1T, zs_l1F, zs_l2T, zs_l2F, zs_l4T, zs_l4F, zs_l8T, zs_l8F, zs_l16T, zs_l16F, zs_l32T, zs_l32F, zs_l64T, zs_l64F, zs_l320T, zs_l320F, zs_l513T, zs_l513F, zs_l2561T, zs_l2561F, zs_t4T, zs_t4F, zs_e1T, zs_e1F, zs_nl0T, zs_nl0F, zs_nb, pk_rem, lN_1, zs_lleT, zs_lleF, zs_le0T, zs_le0F]
      exact K
theorem zv_c32 {post : Int32 → SY → Prop} {kv : Int32} (H : zp_H nd bk se wy ln rx eg) (hy : zv_ry nd ln rx ry) (A : zv_A nd bk se wy ln rx eg rr up lw)
    (K : post (zp_co (zp_cls nd bk se wy ln rx eg) kv ln nd) (nI nd, nI bk, nI se, nI wy, nI wn, nI wp, hit, mis, lN ck, zm_eo ry, zm_eo eg, zm_em rr, zm_em up, zm_em lw, zm_eL lu)) : ∀ f n, n ≤ nd → nd - n < f → wY_count_32 post kv (nI nd) (nI bk) (nI se) (nI wy) (nI wn) (nI wp) hit mis (lN ck) (zm_eo ry) (zm_eo eg) (zm_em rr) (zm_em up) (zm_em lw) (zm_eL lu) f (zp_co (zp_cls nd bk se wy ln rx eg) kv ln n) (nI n) := by
  intro f
  induction f with
  | zero => intro n _ h; omega
  | succ f ih =>
    intro n hn hf
    have h8 := H.1
    rcases Nat.lt_or_ge n nd with h | h
    · have l4 := H.2.2.2.2.1 n h
      simp (disch := omega) only [wY_count_32, forall_eq, zm_em_a, zm_eo_a, zm_eL_a, zm_oi_s, zm_oi_n, zm_em_u, zm_em_u0, zm_em_b0, zm_em_b1, zm_eo_u, zm_eo_un, zm_eL_u, zm_eL_u0, nI_clamp, nI_1, nI_add, zs_m2, zs_m4, zs_m5, zs_m8, zs_d2, zs_s1, zs_in, zs_leT, zs_leF, zs_ltT, zs_ltF, zs_eqT, zs_eqF, zs_m1e, zs_oe, zs_0lt, zs_e0T, zs_e0F, zs_2n, true_implies, forall_const, not_true_eq_false, not_false_eq_true, false_implies, and_true, true_and, implies_true, zs_l1T, zs_l1F, zs_l2T, zs_l2F, zs_l4T, zs_l4F, zs_l8T, zs_l8F, zs_l16T, zs_l16F, zs_l32T, zs_l32F, zs_l64T, zs_l64F, zs_l320T, zs_l320F, zs_l513T, zs_l513F, zs_l2561T, zs_l2561F, zs_t4T, zs_t4F, zs_e1T, zs_e1F, zs_nl0T, zs_nl0F, zs_nb, pk_rem, lN_1, zs_lleT, zs_lleF, zs_le0T, zs_le0F]
      refine zv_len ⟨H.1.2, H.2.1.2⟩ H.2.2.2.2 hy h ?_
      exact ⟨5, zv_c50 H hy A h (ih (n + 1) (by omega) (by omega)) 5 0 _ (by omega) (by omega) rfl⟩
    · have e : n = nd := by omega
      subst e
      simp (disch := omega) only [wY_count_32, forall_eq, zm_em_a, zm_eo_a, zm_eL_a, zm_oi_s, zm_oi_n, zm_em_u, zm_em_u0, zm_em_b0, zm_em_b1, zm_eo_u, zm_eo_un, zm_eL_u, zm_eL_u0, nI_clamp, nI_1, nI_add, zs_m2, zs_m4, zs_m5, zs_m8, zs_d2, zs_s1, zs_in, zs_leT, zs_leF, zs_ltT, zs_ltF, zs_eqT, zs_eqF, zs_m1e, zs_oe, zs_0lt, zs_e0T, zs_e0F, zs_2n, true_implies, forall_const, not_true_eq_false, not_false_eq_true, false_implies, and_true, true_and, implies_true, zs_l1T, zs_l1F, zs_l2T, zs_l2F, zs_l4T, zs_l4F, zs_l8T, zs_l8F, zs_l16T, zs_l16F, zs_l32T, zs_l32F, zs_l64T, zs_l64F, zs_l320T, zs_l320F, zs_l513T, zs_l513F, zs_l2561T, zs_l2561F, zs_t4T, zs_t4F, zs_e1T, zs_e1F, zs_nl0T, zs_nl0F, zs_nb, pk_rem, lN_1, zs_lleT, zs_lleF, zs_le0T, zs_le0F]
      exact K
theorem zv_count {post : Int32 → SY → Prop} {kv : Int32} (H : zp_H nd bk se wy ln rx eg) (hy : zv_ry nd ln rx ry) (hk : kv = 1 ∨ kv = 2 ∨ kv = 3 ∨ kv = -4)
    (K : ∀ rr up lw : Nat → Nat, post (zp_co (zp_cls nd bk se wy ln rx eg) kv ln nd) (nI nd, nI bk, nI se, nI wy, nI wn, nI wp, hit, mis, lN ck, zm_eo ry, zm_eo eg, zm_em rr, zm_em up, zm_em lw, zm_eL lu)) : wpY_count post (nI nd, nI bk, nI se, nI wy, nI wn, nI wp, hit, mis, lN ck, zm_eo ry, zm_eo eg, zm_em rr, zm_em up, zm_em lw, zm_eL lu) kv := by
  have h8 := H.1
  have key : wY_count_24 post kv (nI nd) (nI bk) (nI se) (nI wy) (nI wn) (nI wp) hit mis (lN ck) (zm_eo ry) (zm_eo eg) (zm_em rr) (zm_em up) (zm_em lw) (zm_eL lu) := by
    unfold wY_count_24
    refine zv_solve H hy (fun rr up lw A => ?_)
    exact ⟨9, zv_c32 H hy A (K rr up lw) 9 0 (by omega) (by omega)⟩
  rcases hk with rfl | rfl | rfl | rfl
  · exact br_t rfl key
  · exact br_f (by decide) (br_t rfl key)
  · exact br_f (by decide) (br_f (by decide) (br_t rfl key))
  · exact br_f (by decide) (br_f (by decide) (br_f (by decide) (br_t rfl key)))
end
end
section
/-! the concrete cache: lists against times -/
def zc_has (se : Nat) (li fi : Nat → Nat) (b : Nat) : Prop := ∃ i, i < fi (b % se) ∧ li (b % se * 4 + i) = b
def zc_out (se wy : Nat) (li fi lu : Nat → Nat) (b : Nat) : Prop := fi (b % se) = wy ∧ ∀ i, i < wy → lu b < lu (li (b % se * 4 + i))
def zc_C (bk se wy : Nat) (li fi lu : Nat → Nat) (ck : Nat) : Prop :=
  (∀ s, s < se → fi s ≤ wy) ∧
  (∀ s, s < se → ∀ i, i < fi s → li (s * 4 + i) < bk ∧ li (s * 4 + i) % se = s ∧ lu (li (s * 4 + i)) ≠ 0) ∧
  (∀ s, s < se → ∀ i j, i < j → j < fi s → lu (li (s * 4 + j)) < lu (li (s * 4 + i))) ∧
  (∀ b, b < bk → lu b ≠ 0 → zc_has se li fi b ∨ zc_out se wy li fi lu b) ∧
  (∀ b, b < bk → lu b ≤ ck)
def zc_ct (bk se : Nat) (lu : Nat → Nat) (b : Nat) : Nat := zm_sm (fun c => if c % se = b % se ∧ lu b < lu c then 1 else 0) bk
section
variable {bk se wy ck : Nat} {li fi lu : Nat → Nat}
theorem zc_lt {s i j : Nat} (C : zc_C bk se wy li fi lu ck) (hs : s < se) (hi : i < fi s) (hj : j < fi s) : lu (li (s * 4 + i)) < lu (li (s * 4 + j)) ↔ j < i := by
  constructor
  · intro h
    rcases Nat.lt_trichotomy i j with z | z | z
    · have := C.2.2.1 s hs i j z hj; omega
    · rw [z] at h; omega
    · exact z
  · intro h; exact C.2.2.1 s hs j i h hi
/-- who stands before the i-th of its set -/
theorem zc_bef {s i c : Nat} (hw : 1 ≤ wy) (C : zc_C bk se wy li fi lu ck) (hs : s < se) (hi : i < fi s) (hc : c < bk) (hcs : c % se = s) : lu (li (s * 4 + i)) < lu c ↔ ∃ j, j < i ∧ li (s * 4 + j) = c := by
  constructor
  · intro h
    rcases C.2.2.2.1 c hc (by omega) with ⟨j, hj, ej⟩ | ⟨hf, ho⟩
    · rw [hcs] at hj ej
      rw [← ej] at h
      exact ⟨j, (zc_lt C hs hi hj).mp h, ej⟩
    · rw [hcs] at hf ho
      have := ho i (by omega)
      omega
  · intro ⟨j, hj, ej⟩
    rw [← ej]
    exact C.2.2.1 s hs j i hj hi
theorem zc_in {s : Nat} (hw : 1 ≤ wy) (C : zc_C bk se wy li fi lu ck) (hs : s < se) : ∀ i, i < fi s → zc_ct bk se lu (li (s * 4 + i)) = i := by
  intro i
  induction i with
  | zero =>
    intro hi
    have e := (C.2.1 s hs 0 hi).2.1
    have : zc_ct bk se lu (li (s * 4 + 0)) ≤ bk * 0 := by
      refine zm_sm_le (fun c hc => ?_)
      try dsimp only
      rw [if_neg]
      · exact Nat.le_refl _
      · intro z
        rw [e] at z
        obtain ⟨j, hj, -⟩ := (zc_bef hw C hs hi hc z.1).mp z.2
        omega
    omega
  | succ i ih =>
    intro hi
    have ih := ih (by omega)
    have e1 := C.2.1 s hs i (by omega)
    have e2 := C.2.1 s hs (i + 1) hi
    have hlt := C.2.2.1 s hs i (i + 1) (by omega) hi
    have key : zc_ct bk se lu (li (s * 4 + (i + 1))) = zc_ct bk se lu (li (s * 4 + i)) + 1 := by
      refine zm_sm_a1 (c := li (s * 4 + i)) ?_ (fun c hc hne => ?_) e1.1
      · rw [if_pos ⟨by rw [e1.2.1, e2.2.1], hlt⟩, if_neg (fun z => absurd z.2 (Nat.lt_irrefl _))]
      · by_cases hcs : c % se = s
        · have a := zc_bef hw C hs hi hc hcs
          have b := zc_bef hw C hs (i := i) (Nat.lt_of_succ_lt hi) hc hcs
          by_cases q : lu (li (s * 4 + i)) < lu c
          · rw [if_pos ⟨by rw [e2.2.1]; exact hcs, Nat.lt_trans hlt q⟩, if_pos ⟨by rw [e1.2.1]; exact hcs, q⟩]
          · have ng : ¬ (c % se = li (s * 4 + (i + 1)) % se ∧ lu (li (s * 4 + (i + 1))) < lu c) := by
              intro z
              obtain ⟨j, hj, ej⟩ := a.mp z.2
              by_cases ji : j = i
              · rw [ji] at ej; exact hne ej.symm
              · exact q (b.mpr ⟨j, Nat.lt_of_le_of_ne (Nat.le_of_lt_succ hj) ji, ej⟩)
            rw [if_neg ng, if_neg (fun z => q z.2)]
        · rw [if_neg (fun z => hcs (by rw [z.1, e2.2.1])), if_neg (fun z => hcs (by rw [z.1, e1.2.1]))]
    omega
theorem zc_no {b : Nat} (hw : 1 ≤ wy) (hse : 1 ≤ se) (C : zc_C bk se wy li fi lu ck) (hb : b < bk) (ho : zc_out se wy li fi lu b) : wy ≤ zc_ct bk se lu b := by
  have hs : b % se < se := Nat.mod_lt _ hse
  have hi : wy - 1 < fi (b % se) := by rw [ho.1]; omega
  have h1 := zc_in hw C hs (wy - 1) hi
  have e1 := C.2.1 _ hs (wy - 1) hi
  have hl := ho.2 (wy - 1) (by omega)
  have : zc_ct bk se lu (li (b % se * 4 + (wy - 1))) < zc_ct bk se lu b := by
    refine zm_sm_lt (i := li (b % se * 4 + (wy - 1))) ?_ e1.1 (fun c hc => ?_)
    · try dsimp only
      rw [if_neg (fun z => by omega), if_pos ⟨e1.2.1, hl⟩]; decide
    · try dsimp only
      by_cases q : c % se = li (b % se * 4 + (wy - 1)) % se ∧ lu (li (b % se * 4 + (wy - 1))) < lu c
      · rw [if_pos q, if_pos ⟨by rw [q.1, e1.2.1], by omega⟩]; exact Nat.le_refl _
      · rw [if_neg q]; exact Nat.zero_le _
  omega
/-- the age of a block, as both sides find it -/
theorem zc_age {b : Nat} (hw : 1 ≤ wy) (hse : 1 ≤ se) (C : zc_C bk se wy li fi lu ck) (hb : b < bk) :
    (∃ a, a < fi (b % se) ∧ li (b % se * 4 + a) = b ∧ (∀ j, j < fi (b % se) → j ≠ a → li (b % se * 4 + j) ≠ b) ∧ lu b ≠ 0 ∧ zc_ct bk se lu b = a) ∨
    ((∀ j, j < fi (b % se) → li (b % se * 4 + j) ≠ b) ∧ (lu b = 0 ∨ wy ≤ zc_ct bk se lu b)) := by
  have hs : b % se < se := Nat.mod_lt _ hse
  by_cases h : zc_has se li fi b
  · obtain ⟨a, ha, ea⟩ := h
    refine Or.inl ⟨a, ha, ea, fun j hj hne ej => ?_, ?_, ?_⟩
    · have l1 := zc_lt C hs ha hj
      have l2 := zc_lt C hs hj ha
      rw [ea, ej] at l1 l2
      omega
    · have := (C.2.1 _ hs a ha).2.2
      rw [ea] at this; exact this
    · have := zc_in hw C hs a ha
      rw [ea] at this; exact this
  · refine Or.inr ⟨fun j hj ej => h ⟨j, hj, ej⟩, ?_⟩
    by_cases z : lu b = 0
    · exact Or.inl z
    · rcases C.2.2.2.1 b hb z with q | q
      · exact absurd q h
      · exact Or.inr (zc_no hw hse C hb q)
def zc_mv (li : Nat → Nat) (base hole b : Nat) (j : Nat) : Nat := if j = base then b else if base < j ∧ j ≤ base + hole then li (j - 1) else li j
/-- a block comes to the front of its list -/
theorem zc_move {b hole f' : Nat} {li' fi' lu' : Nat → Nat} (hw : wy ≤ 4) (hse : 1 ≤ se) (C : zc_C bk se wy li fi lu ck) (hb : b < bk)
    (h1 : hole < f' ∧ f' ≤ wy) (h2 : f' = fi (b % se) ∨ (f' = fi (b % se) + 1 ∧ hole = fi (b % se))) (h3 : ∀ i, i < fi (b % se) → i ≠ hole → li (b % se * 4 + i) ≠ b) (h4 : hole < fi (b % se) → li (b % se * 4 + hole) = b ∨ hole + 1 = wy)
    (hli : ∀ j, li' j = zc_mv li (b % se * 4) hole b j) (hfi : ∀ s, fi' s = if s = b % se then f' else fi s) (hlu : ∀ c, lu' c = if c = b then ck + 1 else lu c) : zc_C bk se wy li' fi' lu' (ck + 1) := by
  have hs : b % se < se := Nat.mod_lt _ hse
  have lub : lu' b = ck + 1 := by rw [hlu, if_pos rfl]
  have luo : ∀ c, c ≠ b → lu' c = lu c := fun c h => by rw [hlu, if_neg h]
  have fis : fi' (b % se) = f' := by rw [hfi, if_pos rfl]
  have fio : ∀ s, s ≠ b % se → fi' s = fi s := fun s h => by rw [hfi, if_neg h]
  have li0 : li' (b % se * 4 + 0) = b := by rw [hli]; unfold zc_mv; rw [if_pos (by omega)]
  have liA : ∀ j, j < hole → li' (b % se * 4 + (j + 1)) = li (b % se * 4 + j) := by
    intro j hj
    rw [hli]; unfold zc_mv
    rw [if_neg (by omega), if_pos (by omega)]
    exact congrArg li (by omega)
  have liB : ∀ j, hole < j → li' (b % se * 4 + j) = li (b % se * 4 + j) := by
    intro j hj
    rw [hli]; unfold zc_mv
    rw [if_neg (by omega), if_neg (by omega)]
  have liO : ∀ s i, s ≠ b % se → i < 4 → li' (s * 4 + i) = li (s * 4 + i) := by
    intro s i h hi
    rw [hli]; unfold zc_mv
    rw [if_neg (by omega), if_neg (by omega)]
  -- the places behind the front are old places
  have sg : ∀ j, 1 ≤ j → j < f' → ∃ q, q < fi (b % se) ∧ q ≠ hole ∧ li' (b % se * 4 + j) = li (b % se * 4 + q) ∧ ((q + 1 = j ∧ j ≤ hole) ∨ (q = j ∧ hole < j)) := by
    intro j hj1 hj
    rcases Nat.lt_or_ge hole j with z | z
    · exact ⟨j, by omega, by omega, liB j z, Or.inr ⟨rfl, z⟩⟩
    · obtain ⟨q, rfl⟩ : ∃ q, j = q + 1 := ⟨j - 1, by omega⟩
      exact ⟨q, by omega, by omega, liA q (by omega), Or.inl ⟨rfl, z⟩⟩
  refine ⟨fun s hs' => ?_, fun s hs' i hi => ?_, fun s hs' i j hij hj => ?_, fun c hc hz => ?_, fun c hc => ?_⟩
  · by_cases e : s = b % se
    · rw [e, fis]; omega
    · rw [fio s e]; exact C.1 s hs'
  · by_cases e : s = b % se
    · subst e
      rw [fis] at hi
      rcases Nat.eq_zero_or_pos i with z | z
      · rw [z, li0]
        exact ⟨hb, rfl, by rw [lub]; omega⟩
      · obtain ⟨q, hq, hqh, eq, -⟩ := sg i z hi
        rw [eq]
        have o := C.2.1 _ hs q hq
        exact ⟨o.1, o.2.1, by rw [luo _ (h3 q hq hqh)]; exact o.2.2⟩
    · rw [fio s e] at hi
      have f4 := C.1 s hs'
      have o := C.2.1 s hs' i hi
      rw [liO s i e (by omega)]
      exact ⟨o.1, o.2.1, by rw [luo _ (fun z => e (by rw [← o.2.1, z]))]; exact o.2.2⟩
  · by_cases e : s = b % se
    · subst e
      rw [fis] at hj
      obtain ⟨q, hq, hqh, eq, cq⟩ := sg j (by omega) hj
      rw [eq, luo _ (h3 q hq hqh)]
      rcases Nat.eq_zero_or_pos i with z | z
      · rw [z, li0, lub]
        have := C.2.2.2.2 _ (C.2.1 _ hs q hq).1
        omega
      · obtain ⟨r, hr, hrh, er, cr⟩ := sg i z (by omega)
        rw [er, luo _ (h3 r hr hrh)]
        exact C.2.2.1 _ hs r q (by omega) hq
    · rw [fio s e] at hj
      have f4 := C.1 s hs'
      have oi := C.2.1 s hs' i (by omega)
      have oj := C.2.1 s hs' j hj
      rw [liO s i e (by omega), liO s j e (by omega), luo (li (s * 4 + i)) (fun z => e (by rw [← oi.2.1, z])), luo (li (s * 4 + j)) (fun z => e (by rw [← oj.2.1, z]))]
      exact C.2.2.1 s hs' i j hij hj
  · by_cases ecb : c = b
    · subst ecb
      exact Or.inl ⟨0, by rw [fis]; omega, li0⟩
    · rw [luo c ecb] at hz
      by_cases e : c % se = b % se
      · rcases C.2.2.2.1 c hc hz with ⟨i, hi, ei⟩ | ⟨hf, ho⟩
        · rw [e] at hi ei
          rcases Nat.lt_trichotomy i hole with z | z | z
          · exact Or.inl ⟨i + 1, by rw [e, fis]; omega, by rw [e, liA i z]; exact ei⟩
          · subst z
            rcases h4 hi with q | q
            · exact absurd (ei.symm.trans q) ecb
            · refine Or.inr ⟨by rw [e, fis]; omega, fun j hj => ?_⟩
              rw [e, luo c ecb]
              rcases Nat.eq_zero_or_pos j with y | y
              · rw [y, li0, lub]
                have := C.2.2.2.2 c hc
                omega
              · obtain ⟨r, hr, hrh, er, cr⟩ := sg j y (by omega)
                rw [er, luo _ (h3 r hr hrh), ← ei]
                exact C.2.2.1 _ hs r i (by omega) hi
          · exact Or.inl ⟨i, by rw [e, fis]; omega, by rw [e, liB i z]; exact ei⟩
        · rw [e] at hf ho
          refine Or.inr ⟨by rw [e, fis]; omega, fun j hj => ?_⟩
          rw [e, luo c ecb]
          rcases Nat.eq_zero_or_pos j with y | y
          · rw [y, li0, lub]
            have := C.2.2.2.2 c hc
            omega
          · obtain ⟨r, hr, hrh, er, cr⟩ := sg j y (by omega)
            rw [er, luo _ (h3 r hr hrh)]
            exact ho r (by omega)
      · have hs2 : c % se < se := Nat.mod_lt _ hse
        have f4 := C.1 _ hs2
        rcases C.2.2.2.1 c hc hz with ⟨i, hi, ei⟩ | ⟨hf, ho⟩
        · exact Or.inl ⟨i, by rw [fio _ e]; exact hi, by rw [liO _ i e (by omega)]; exact ei⟩
        · refine Or.inr ⟨by rw [fio _ e]; exact hf, fun j hj => ?_⟩
          have o := C.2.1 _ hs2 j (by omega)
          rw [liO _ j e (by omega), luo c ecb, luo _ (fun z => e (by rw [← o.2.1, z]))]
          exact ho j hj
  · by_cases ecb : c = b
    · rw [ecb, lub]; exact Nat.le_refl _
    · rw [luo c ecb]
      have := C.2.2.2.2 c hc
      omega
/-- an empty cache -/
theorem zc_0 (hf : ∀ s, s < 4 → fi s = 0) (hl : ∀ b, b < 8 → lu b = 0) (hse : se ≤ 4) (h8 : bk ≤ 8) : zc_C bk se wy li fi lu 0 := by
  refine ⟨fun s hs => by rw [hf s (by omega)]; exact Nat.zero_le _, fun s hs i hi => ?_, fun s hs i j _ hj => ?_, fun b hb hz => absurd (hl b (by omega)) hz, fun b hb => by rw [hl b (by omega)]; exact Nat.le_refl _⟩
  · rw [hf s (by omega)] at hi; omega
  · rw [hf s (by omega)] at hj; omega
end
end
section
/-! the concrete cache: walks of both sides -/
section
variable {nd bk se wy st wn wp : Nat} {hit mis : Int32} {rx ln so rc iu il cu cl li fi : Nat → Nat} {eg : Nat → Option Nat}
theorem zx_ca9 {post : Int32 → Prop} {b s a : Nat} (hw : wy ≤ 4) (hs : s < 4) (hb : b < 8) (hf : fi s ≤ wy) (hl : ∀ j, j < fi s → li (s * 4 + j) < 8)
    (h : (a < fi s ∧ li (s * 4 + a) = b ∧ ∀ j, j < fi s → j ≠ a → li (s * 4 + j) ≠ b) ∨ (a = wy ∧ ∀ j, j < fi s → li (s * 4 + j) ≠ b)) (K : post (nI a)) : ∀ f i, i ≤ fi s → fi s - i < f → (a < fi s → li (s * 4 + a) = b → i ≤ a) → wX_concreteAge_9 post (nI b) (nI s) (nI nd) (nI bk) (nI se) (nI wy) (nI st) (nI wn) (nI wp) hit mis (zm_em rx) (zm_em ln) (zm_eo eg) (zm_em so) (zm_em rc) (zm_em iu) (zm_em il) (zm_em cu) (zm_em cl) (zm_em li) (zm_em fi) f (nI i) := by
  intro f
  induction f with
  | zero => intro i _ h; omega
  | succ f ih =>
    intro i hi hfu hia
    rcases Nat.lt_or_ge i (fi s) with q | q
    · have b1 := hl i q
      by_cases e : li (s * 4 + i) = b
      · have ea : i = a := by
          rcases h with h | h
          · exact Decidable.byContradiction fun z => h.2.2 i q z e
          · exact absurd e (h.2 i q)
        simp (disch := omega) only [wX_concreteAge_9, forall_eq, zm_em_a, zm_eo_a, zm_eL_a, zm_oi_s, zm_oi_n, zm_em_u, zm_em_u0, zm_em_b0, zm_em_b1, zm_eo_u, zm_eo_un, zm_eL_u, zm_eL_u0, nI_clamp, nI_1, nI_add, zs_m2, zs_m4, zs_m5, zs_m8, zs_d2, zs_s1, zs_in, zs_leT, zs_leF, zs_ltT, zs_ltF, zs_eqT, zs_eqF, zs_m1e, zs_oe, zs_0lt, zs_e0T, zs_e0F, zs_2n, true_implies, forall_const, not_true_eq_false, not_false_eq_true, false_implies, and_true, true_and, implies_true, zs_l1T, zs_l1F, zs_l2T, zs_l2F, zs_l4T, zs_l4F, zs_l8T, zs_l8F, zs_l16T, zs_l16F, zs_l32T, zs_l32F, zs_l64T, zs_l64F, zs_l320T, zs_l320F, zs_l513T, zs_l513F, zs_l2561T, zs_l2561F, zs_t4T, zs_t4F, zs_e1T, zs_e1F, zs_nl0T, zs_nl0F, zs_nb, pk_rem, lN_1, zs_lleT, zs_lleF, zs_le0T, zs_le0F]
        rw [ea]; exact K
      · simp (disch := omega) only [wX_concreteAge_9, forall_eq, zm_em_a, zm_eo_a, zm_eL_a, zm_oi_s, zm_oi_n, zm_em_u, zm_em_u0, zm_em_b0, zm_em_b1, zm_eo_u, zm_eo_un, zm_eL_u, zm_eL_u0, nI_clamp, nI_1, nI_add, zs_m2, zs_m4, zs_m5, zs_m8, zs_d2, zs_s1, zs_in, zs_leT, zs_leF, zs_ltT, zs_ltF, zs_eqT, zs_eqF, zs_m1e, zs_oe, zs_0lt, zs_e0T, zs_e0F, zs_2n, true_implies, forall_const, not_true_eq_false, not_false_eq_true, false_implies, and_true, true_and, implies_true, zs_l1T, zs_l1F, zs_l2T, zs_l2F, zs_l4T, zs_l4F, zs_l8T, zs_l8F, zs_l16T, zs_l16F, zs_l32T, zs_l32F, zs_l64T, zs_l64F, zs_l320T, zs_l320F, zs_l513T, zs_l513F, zs_l2561T, zs_l2561F, zs_t4T, zs_t4F, zs_e1T, zs_e1F, zs_nl0T, zs_nl0F, zs_nb, pk_rem, lN_1, zs_lleT, zs_lleF, zs_le0T, zs_le0F]
        refine ih (i + 1) (by omega) (by omega) (fun h1 h2 => ?_)
        have := hia h1 h2
        rcases Nat.lt_or_ge i a with y | y
        · exact y
        · have : i = a := by omega
          rw [this] at e; exact absurd h2 e
    · have ea : a = wy := by
        rcases h with h | h
        · have := hia h.1 h.2.1; omega
        · exact h.1
      simp (disch := omega) only [wX_concreteAge_9, forall_eq, zm_em_a, zm_eo_a, zm_eL_a, zm_oi_s, zm_oi_n, zm_em_u, zm_em_u0, zm_em_b0, zm_em_b1, zm_eo_u, zm_eo_un, zm_eL_u, zm_eL_u0, nI_clamp, nI_1, nI_add, zs_m2, zs_m4, zs_m5, zs_m8, zs_d2, zs_s1, zs_in, zs_leT, zs_leF, zs_ltT, zs_ltF, zs_eqT, zs_eqF, zs_m1e, zs_oe, zs_0lt, zs_e0T, zs_e0F, zs_2n, true_implies, forall_const, not_true_eq_false, not_false_eq_true, false_implies, and_true, true_and, implies_true, zs_l1T, zs_l1F, zs_l2T, zs_l2F, zs_l4T, zs_l4F, zs_l8T, zs_l8F, zs_l16T, zs_l16F, zs_l32T, zs_l32F, zs_l64T, zs_l64F, zs_l320T, zs_l320F, zs_l513T, zs_l513F, zs_l2561T, zs_l2561F, zs_t4T, zs_t4F, zs_e1T, zs_e1F, zs_nl0T, zs_nl0F, zs_nb, pk_rem, lN_1, zs_lleT, zs_lleF, zs_le0T, zs_le0F]
      rw [← ea]; exact K
theorem zx_cAge {post : Int32 → Prop} {b a : Nat} (hw : wy ≤ 4) (hse : 1 ≤ se ∧ se ≤ 4) (hso : ∀ b, b < 8 → so b = b % se) (hb : b < 8) (hf : fi (b % se) ≤ wy) (hl : ∀ j, j < fi (b % se) → li (b % se * 4 + j) < 8)
    (h : (a < fi (b % se) ∧ li (b % se * 4 + a) = b ∧ ∀ j, j < fi (b % se) → j ≠ a → li (b % se * 4 + j) ≠ b) ∨ (a = wy ∧ ∀ j, j < fi (b % se) → li (b % se * 4 + j) ≠ b)) (K : post (nI a)) : wpX_concreteAge post (nI nd, nI bk, nI se, nI wy, nI st, nI wn, nI wp, hit, mis, zm_em rx, zm_em ln, zm_eo eg, zm_em so, zm_em rc, zm_em iu, zm_em il, zm_em cu, zm_em cl, zm_em li, zm_em fi) (nI b) := by
  have hs : b % se < se := Nat.mod_lt _ (by omega)
  simp (disch := omega) only [wpX_concreteAge, hso b hb, forall_eq, zm_em_a, zm_eo_a, zm_eL_a, zm_oi_s, zm_oi_n, zm_em_u, zm_em_u0, zm_em_b0, zm_em_b1, zm_eo_u, zm_eo_un, zm_eL_u, zm_eL_u0, nI_clamp, nI_1, nI_add, zs_m2, zs_m4, zs_m5, zs_m8, zs_d2, zs_s1, zs_in, zs_leT, zs_leF, zs_ltT, zs_ltF, zs_eqT, zs_eqF, zs_m1e, zs_oe, zs_0lt, zs_e0T, zs_e0F, zs_2n, true_implies, forall_const, not_true_eq_false, not_false_eq_true, false_implies, and_true, true_and, implies_true, zs_l1T, zs_l1F, zs_l2T, zs_l2F, zs_l4T, zs_l4F, zs_l8T, zs_l8F, zs_l16T, zs_l16F, zs_l32T, zs_l32F, zs_l64T, zs_l64F, zs_l320T, zs_l320F, zs_l513T, zs_l513F, zs_l2561T, zs_l2561F, zs_t4T, zs_t4F, zs_e1T, zs_e1F, zs_nl0T, zs_nl0F, zs_nb, pk_rem, lN_1, zs_lleT, zs_lleF, zs_le0T, zs_le0F]
  exact ⟨5, zx_ca9 hw (by omega) hb hf hl h K 5 0 (by omega) (by omega) (fun _ _ => Nat.zero_le _)⟩
theorem zx_m60 {post : SX → Prop} {b base hole : Nat} {l0 : Nat → Nat} (hb : b < 8) (hba : base + 4 ≤ 16) (hho : hole < 4)
    (K : ∀ l : Nat → Nat, (∀ j, l j = zc_mv l0 base hole b j) → post (nI nd, nI bk, nI se, nI wy, nI st, nI wn, nI wp, hit, mis, zm_em rx, zm_em ln, zm_eo eg, zm_em so, zm_em rc, zm_em iu, zm_em il, zm_em cu, zm_em cl, zm_em l, zm_em fi)) : ∀ f i (l : Nat → Nat), i ≤ hole → i < f → (∀ j, l j = if base + i < j ∧ j ≤ base + hole then l0 (j - 1) else l0 j) → wX_moveToFront_60 post (nI b) (nI base) (nI nd) (nI bk) (nI se) (nI wy) (nI st) (nI wn) (nI wp) hit mis f (nI i) (zm_em rx) (zm_em ln) (zm_eo eg) (zm_em so) (zm_em rc) (zm_em iu) (zm_em il) (zm_em cu) (zm_em cl) (zm_em l) (zm_em fi) := by
  intro f
  induction f with
  | zero => intro i _ _ h; omega
  | succ f ih =>
    intro i l hi hf hl
    rcases Nat.eq_zero_or_pos i with z | z
    · subst z
      simp (disch := omega) only [wX_moveToFront_60, forall_eq, zm_em_a, zm_eo_a, zm_eL_a, zm_oi_s, zm_oi_n, zm_em_u, zm_em_u0, zm_em_b0, zm_em_b1, zm_eo_u, zm_eo_un, zm_eL_u, zm_eL_u0, nI_clamp, nI_1, nI_add, zs_m2, zs_m4, zs_m5, zs_m8, zs_d2, zs_s1, zs_in, zs_leT, zs_leF, zs_ltT, zs_ltF, zs_eqT, zs_eqF, zs_m1e, zs_oe, zs_0lt, zs_e0T, zs_e0F, zs_2n, true_implies, forall_const, not_true_eq_false, not_false_eq_true, false_implies, and_true, true_and, implies_true, zs_l1T, zs_l1F, zs_l2T, zs_l2F, zs_l4T, zs_l4F, zs_l8T, zs_l8F, zs_l16T, zs_l16F, zs_l32T, zs_l32F, zs_l64T, zs_l64F, zs_l320T, zs_l320F, zs_l513T, zs_l513F, zs_l2561T, zs_l2561F, zs_t4T, zs_t4F, zs_e1T, zs_e1F, zs_nl0T, zs_nl0F, zs_nb, pk_rem, lN_1, zs_lleT, zs_lleF, zs_le0T, zs_le0F]
      refine K _ (fun j => ?_)
      unfold zc_mv
      rcases Nat.decEq j base with e | e
      · rw [zm_upn e, if_neg e, hl j]; rfl
      · rw [e, zm_ups, if_pos rfl]
    · obtain ⟨i, rfl⟩ : ∃ q, i = q + 1 := ⟨i - 1, by omega⟩
      have s1 : base + (i + 1) - 1 = base + i := by omega
      simp (disch := omega) only [wX_moveToFront_60, s1, pk_m1, forall_eq, zm_em_a, zm_eo_a, zm_eL_a, zm_oi_s, zm_oi_n, zm_em_u, zm_em_u0, zm_em_b0, zm_em_b1, zm_eo_u, zm_eo_un, zm_eL_u, zm_eL_u0, nI_clamp, nI_1, nI_add, zs_m2, zs_m4, zs_m5, zs_m8, zs_d2, zs_s1, zs_in, zs_leT, zs_leF, zs_ltT, zs_ltF, zs_eqT, zs_eqF, zs_m1e, zs_oe, zs_0lt, zs_e0T, zs_e0F, zs_2n, true_implies, forall_const, not_true_eq_false, not_false_eq_true, false_implies, and_true, true_and, implies_true, zs_l1T, zs_l1F, zs_l2T, zs_l2F, zs_l4T, zs_l4F, zs_l8T, zs_l8F, zs_l16T, zs_l16F, zs_l32T, zs_l32F, zs_l64T, zs_l64F, zs_l320T, zs_l320F, zs_l513T, zs_l513F, zs_l2561T, zs_l2561F, zs_t4T, zs_t4F, zs_e1T, zs_e1F, zs_nl0T, zs_nl0F, zs_nb, pk_rem, lN_1, zs_lleT, zs_lleF, zs_le0T, zs_le0F]
      refine ih i _ (by omega) (by omega) (fun j => ?_)
      rcases Nat.decEq j (base + (i + 1)) with e | e
      · rw [zm_upn e, hl j]
        by_cases q : base + (i + 1) < j ∧ j ≤ base + hole
        · rw [if_pos q, if_pos (by omega)]
        · rw [if_neg q, if_neg (by omega)]
      · rw [e, zm_ups, hl, if_neg (by omega), if_pos (by omega)]
        exact congrArg l0 (by omega)
theorem zx_move {post : SX → Prop} {b a hole f' : Nat} (hw : 1 ≤ wy ∧ wy ≤ 4) (hse : 1 ≤ se ∧ se ≤ 4) (hso : ∀ b, b < 8 → so b = b % se) (hb : b < 8) (hf : fi (b % se) ≤ wy) (h : (a < wy ∧ hole = a ∧ f' = fi (b % se)) ∨ (a = wy ∧ fi (b % se) < wy ∧ hole = fi (b % se) ∧ f' = fi (b % se) + 1) ∨ (a = wy ∧ fi (b % se) = wy ∧ hole + 1 = wy ∧ f' = wy))
    (K : ∀ l f : Nat → Nat, (∀ j, l j = zc_mv li (b % se * 4) hole b j) → (∀ s, f s = if s = b % se then f' else fi s) → post (nI nd, nI bk, nI se, nI wy, nI st, nI wn, nI wp, hit, mis, zm_em rx, zm_em ln, zm_eo eg, zm_em so, zm_em rc, zm_em iu, zm_em il, zm_em cu, zm_em cl, zm_em l, zm_em f)) : wpX_moveToFront post (nI nd, nI bk, nI se, nI wy, nI st, nI wn, nI wp, hit, mis, zm_em rx, zm_em ln, zm_eo eg, zm_em so, zm_em rc, zm_em iu, zm_em il, zm_em cu, zm_em cl, zm_em li, zm_em fi) (nI b) (nI a) := by
  have hs : b % se < se := Nat.mod_lt _ (by omega)
  have h0 : ∀ j, li j = if b % se * 4 + hole < j ∧ j ≤ b % se * 4 + hole then li (j - 1) else li j := fun j => by rw [if_neg (by omega)]
  rcases h with ⟨h1, rfl, h3⟩ | ⟨rfl, h1, h2, h3⟩ | ⟨rfl, h1, h2, h3⟩
  · simp (disch := omega) only [wpX_moveToFront, hso b hb, forall_eq, zm_em_a, zm_eo_a, zm_eL_a, zm_oi_s, zm_oi_n, zm_em_u, zm_em_u0, zm_em_b0, zm_em_b1, zm_eo_u, zm_eo_un, zm_eL_u, zm_eL_u0, nI_clamp, nI_1, nI_add, zs_m2, zs_m4, zs_m5, zs_m8, zs_d2, zs_s1, zs_in, zs_leT, zs_leF, zs_ltT, zs_ltF, zs_eqT, zs_eqF, zs_m1e, zs_oe, zs_0lt, zs_e0T, zs_e0F, zs_2n, true_implies, forall_const, not_true_eq_false, not_false_eq_true, false_implies, and_true, true_and, implies_true, zs_l1T, zs_l1F, zs_l2T, zs_l2F, zs_l4T, zs_l4F, zs_l8T, zs_l8F, zs_l16T, zs_l16F, zs_l32T, zs_l32F, zs_l64T, zs_l64F, zs_l320T, zs_l320F, zs_l513T, zs_l513F, zs_l2561T, zs_l2561F, zs_t4T, zs_t4F, zs_e1T, zs_e1F, zs_nl0T, zs_nl0F, zs_nb, pk_rem, lN_1, zs_lleT, zs_lleF, zs_le0T, zs_le0F]
    refine ⟨hole + 1, zx_m60 (l0 := li) hb (by omega) (by omega) (fun l hl => K l fi hl (fun s => ?_)) (hole + 1) hole li (by omega) (by omega) h0⟩
    by_cases e : s = b % se
    · rw [if_pos e, e, h3]
    · rw [if_neg e]
  · have s1 : fi (b % se) + 1 - 1 = hole := by omega
    simp (disch := omega) only [wpX_moveToFront, wX_moveToFront_46, hso b hb, zm_ups, forall_eq, zm_em_a, zm_eo_a, zm_eL_a, zm_oi_s, zm_oi_n, zm_em_u, zm_em_u0, zm_em_b0, zm_em_b1, zm_eo_u, zm_eo_un, zm_eL_u, zm_eL_u0, nI_clamp, nI_1, nI_add, zs_m2, zs_m4, zs_m5, zs_m8, zs_d2, zs_s1, zs_in, zs_leT, zs_leF, zs_ltT, zs_ltF, zs_eqT, zs_eqF, zs_m1e, zs_oe, zs_0lt, zs_e0T, zs_e0F, zs_2n, true_implies, forall_const, not_true_eq_false, not_false_eq_true, false_implies, and_true, true_and, implies_true, zs_l1T, zs_l1F, zs_l2T, zs_l2F, zs_l4T, zs_l4F, zs_l8T, zs_l8F, zs_l16T, zs_l16F, zs_l32T, zs_l32F, zs_l64T, zs_l64F, zs_l320T, zs_l320F, zs_l513T, zs_l513F, zs_l2561T, zs_l2561F, zs_t4T, zs_t4F, zs_e1T, zs_e1F, zs_nl0T, zs_nl0F, zs_nb, pk_rem, lN_1, zs_lleT, zs_lleF, zs_le0T, zs_le0F]
    rw [s1]
    refine ⟨hole + 1, zx_m60 (l0 := li) hb (by omega) (by omega) (fun l hl => K l _ hl (fun s => ?_)) (hole + 1) hole li (by omega) (by omega) h0⟩
    rcases Nat.decEq s (b % se) with e | e
    · rw [zm_upn e, if_neg e]
    · rw [e, zm_ups, if_pos rfl, h3]
  · have s1 : fi (b % se) - 1 = hole := by omega
    simp (disch := omega) only [wpX_moveToFront, wX_moveToFront_46, hso b hb, forall_eq, zm_em_a, zm_eo_a, zm_eL_a, zm_oi_s, zm_oi_n, zm_em_u, zm_em_u0, zm_em_b0, zm_em_b1, zm_eo_u, zm_eo_un, zm_eL_u, zm_eL_u0, nI_clamp, nI_1, nI_add, zs_m2, zs_m4, zs_m5, zs_m8, zs_d2, zs_s1, zs_in, zs_leT, zs_leF, zs_ltT, zs_ltF, zs_eqT, zs_eqF, zs_m1e, zs_oe, zs_0lt, zs_e0T, zs_e0F, zs_2n, true_implies, forall_const, not_true_eq_false, not_false_eq_true, false_implies, and_true, true_and, implies_true, zs_l1T, zs_l1F, zs_l2T, zs_l2F, zs_l4T, zs_l4F, zs_l8T, zs_l8F, zs_l16T, zs_l16F, zs_l32T, zs_l32F, zs_l64T, zs_l64F, zs_l320T, zs_l320F, zs_l513T, zs_l513F, zs_l2561T, zs_l2561F, zs_t4T, zs_t4F, zs_e1T, zs_e1F, zs_nl0T, zs_nl0F, zs_nb, pk_rem, lN_1, zs_lleT, zs_lleF, zs_le0T, zs_le0F]
    rw [s1]
    refine ⟨hole + 1, zx_m60 (l0 := li) hb (by omega) (by omega) (fun l hl => K l fi hl (fun s => ?_)) (hole + 1) hole li (by omega) (by omega) h0⟩
    by_cases e : s = b % se
    · rw [if_pos e, e, h3, h1]
    · rw [if_neg e]
end
section
variable {nd bk se wy wn wp ck : Nat} {hit mis : Int32} {rr up lw lu : Nat → Nat} {ry eg : Nat → Option Nat}
theorem zv_ag35 {post : Int32 → Prop} {b : Nat} (h8 : bk ≤ 8) (hw : wy ≤ 4) (hse : 1 ≤ se ∧ se ≤ 4) (hb : b < bk) (hl : ∀ c, c < bk → lu c < 2 ^ 31) (K : post (nI (if wy ≤ zc_ct bk se lu b then wy else zc_ct bk se lu b))) : ∀ f c, c ≤ bk → bk - c < f →
      wY_age_35 post (nI b) (nI nd) (nI bk) (nI se) (nI wy) (nI wn) (nI wp) hit mis (lN ck) (zm_eo ry) (zm_eo eg) (zm_em rr) (zm_em up) (zm_em lw) (zm_eL lu) f (nI (zm_sm (fun c => if c % se = b % se ∧ lu b < lu c then 1 else 0) c)) (nI c) := by
  intro f
  induction f with
  | zero => intro i _ h; omega
  | succ f ih =>
    intro c hc hf
    have hm : zm_sm (fun c => if c % se = b % se ∧ lu b < lu c then 1 else 0) c ≤ c * 1 := zm_sm_le (fun j _ => by (try dsimp only); split <;> omega)
    rcases Nat.lt_or_ge c bk with h | h
    · have ih1 := ih (c + 1) (by omega) (by omega)
      rw [zm_sm] at ih1
      have l1 := hl c h
      have l2 := hl b hb
      have t1 := Nat.mod_lt b (show 0 < se by omega)
      have t2 := Nat.mod_lt c (show 0 < se by omega)
      by_cases es : c % se = b % se
      · rcases Nat.lt_or_ge (lu b) (lu c) with q | q
        · rw [if_pos ⟨es, q⟩] at ih1
          simp (disch := omega) only [wY_age_35, forall_eq, zm_em_a, zm_eo_a, zm_eL_a, zm_oi_s, zm_oi_n, zm_em_u, zm_em_u0, zm_em_b0, zm_em_b1, zm_eo_u, zm_eo_un, zm_eL_u, zm_eL_u0, nI_clamp, nI_1, nI_add, zs_m2, zs_m4, zs_m5, zs_m8, zs_d2, zs_s1, zs_in, zs_leT, zs_leF, zs_ltT, zs_ltF, zs_eqT, zs_eqF, zs_m1e, zs_oe, zs_0lt, zs_e0T, zs_e0F, zs_2n, true_implies, forall_const, not_true_eq_false, not_false_eq_true, false_implies, and_true, true_and, implies_true, zs_l1T, zs_l1F, zs_l2T, zs_l2F, zs_l4T, zs_l4F, zs_l8T, zs_l8F, zs_l16T, zs_l16F, zs_l32T, zs_l32F, zs_l64T, zs_l64F, zs_l320T, zs_l320F, zs_l513T, zs_l513F, zs_l2561T, zs_l2561F, zs_t4T, zs_t4F, zs_e1T, zs_e1F, zs_nl0T, zs_nl0F, zs_nb, pk_rem, lN_1, zs_lleT, zs_lleF, zs_le0T, zs_le0F]
          exact ih1
        · rw [if_neg (fun z => by omega), Nat.add_zero] at ih1
          simp (disch := omega) only [wY_age_35, forall_eq, zm_em_a, zm_eo_a, zm_eL_a, zm_oi_s, zm_oi_n, zm_em_u, zm_em_u0, zm_em_b0, zm_em_b1, zm_eo_u, zm_eo_un, zm_eL_u, zm_eL_u0, nI_clamp, nI_1, nI_add, zs_m2, zs_m4, zs_m5, zs_m8, zs_d2, zs_s1, zs_in, zs_leT, zs_leF, zs_ltT, zs_ltF, zs_eqT, zs_eqF, zs_m1e, zs_oe, zs_0lt, zs_e0T, zs_e0F, zs_2n, true_implies, forall_const, not_true_eq_false, not_false_eq_true, false_implies, and_true, true_and, implies_true, zs_l1T, zs_l1F, zs_l2T, zs_l2F, zs_l4T, zs_l4F, zs_l8T, zs_l8F, zs_l16T, zs_l16F, zs_l32T, zs_l32F, zs_l64T, zs_l64F, zs_l320T, zs_l320F, zs_l513T, zs_l513F, zs_l2561T, zs_l2561F, zs_t4T, zs_t4F, zs_e1T, zs_e1F, zs_nl0T, zs_nl0F, zs_nb, pk_rem, lN_1, zs_lleT, zs_lleF, zs_le0T, zs_le0F]
          exact ih1
      · rw [if_neg (fun z => es z.1), Nat.add_zero] at ih1
        simp (disch := omega) only [wY_age_35, forall_eq, zm_em_a, zm_eo_a, zm_eL_a, zm_oi_s, zm_oi_n, zm_em_u, zm_em_u0, zm_em_b0, zm_em_b1, zm_eo_u, zm_eo_un, zm_eL_u, zm_eL_u0, nI_clamp, nI_1, nI_add, zs_m2, zs_m4, zs_m5, zs_m8, zs_d2, zs_s1, zs_in, zs_leT, zs_leF, zs_ltT, zs_ltF, zs_eqT, zs_eqF, zs_m1e, zs_oe, zs_0lt, zs_e0T, zs_e0F, zs_2n, true_implies, forall_const, not_true_eq_false, not_false_eq_true, false_implies, and_true, true_and, implies_true, zs_l1T, zs_l1F, zs_l2T, zs_l2F, zs_l4T, zs_l4F, zs_l8T, zs_l8F, zs_l16T, zs_l16F, zs_l32T, zs_l32F, zs_l64T, zs_l64F, zs_l320T, zs_l320F, zs_l513T, zs_l513F, zs_l2561T, zs_l2561F, zs_t4T, zs_t4F, zs_e1T, zs_e1F, zs_nl0T, zs_nl0F, zs_nb, pk_rem, lN_1, zs_lleT, zs_lleF, zs_le0T, zs_le0F]
        exact ih1
    · have e : c = bk := by omega
      subst e
      have hct : zc_ct c se lu b = zm_sm (fun c => if c % se = b % se ∧ lu b < lu c then 1 else 0) c := rfl
      rw [hct] at K
      by_cases q : wy ≤ zm_sm (fun c => if c % se = b % se ∧ lu b < lu c then 1 else 0) c
      · rw [if_pos q] at K
        simp (disch := omega) only [wY_age_35, forall_eq, zm_em_a, zm_eo_a, zm_eL_a, zm_oi_s, zm_oi_n, zm_em_u, zm_em_u0, zm_em_b0, zm_em_b1, zm_eo_u, zm_eo_un, zm_eL_u, zm_eL_u0, nI_clamp, nI_1, nI_add, zs_m2, zs_m4, zs_m5, zs_m8, zs_d2, zs_s1, zs_in, zs_leT, zs_leF, zs_ltT, zs_ltF, zs_eqT, zs_eqF, zs_m1e, zs_oe, zs_0lt, zs_e0T, zs_e0F, zs_2n, true_implies, forall_const, not_true_eq_false, not_false_eq_true, false_implies, and_true, true_and, implies_true, zs_l1T, zs_l1F, zs_l2T, zs_l2F, zs_l4T, zs_l4F, zs_l8T, zs_l8F, zs_l16T, zs_l16F, zs_l32T, zs_l32F, zs_l64T, zs_l64F, zs_l320T, zs_l320F, zs_l513T, zs_l513F, zs_l2561T, zs_l2561F, zs_t4T, zs_t4F, zs_e1T, zs_e1F, zs_nl0T, zs_nl0F, zs_nb, pk_rem, lN_1, zs_lleT, zs_lleF, zs_le0T, zs_le0F]
        exact K
      · rw [if_neg q] at K
        simp (disch := omega) only [wY_age_35, forall_eq, zm_em_a, zm_eo_a, zm_eL_a, zm_oi_s, zm_oi_n, zm_em_u, zm_em_u0, zm_em_b0, zm_em_b1, zm_eo_u, zm_eo_un, zm_eL_u, zm_eL_u0, nI_clamp, nI_1, nI_add, zs_m2, zs_m4, zs_m5, zs_m8, zs_d2, zs_s1, zs_in, zs_leT, zs_leF, zs_ltT, zs_ltF, zs_eqT, zs_eqF, zs_m1e, zs_oe, zs_0lt, zs_e0T, zs_e0F, zs_2n, true_implies, forall_const, not_true_eq_false, not_false_eq_true, false_implies, and_true, true_and, implies_true, zs_l1T, zs_l1F, zs_l2T, zs_l2F, zs_l4T, zs_l4F, zs_l8T, zs_l8F, zs_l16T, zs_l16F, zs_l32T, zs_l32F, zs_l64T, zs_l64F, zs_l320T, zs_l320F, zs_l513T, zs_l513F, zs_l2561T, zs_l2561F, zs_t4T, zs_t4F, zs_e1T, zs_e1F, zs_nl0T, zs_nl0F, zs_nb, pk_rem, lN_1, zs_lleT, zs_lleF, zs_le0T, zs_le0F]
        exact K
theorem zv_age {post : Int32 → Prop} {b a : Nat} (h8 : bk ≤ 8) (hw : wy ≤ 4) (hse : 1 ≤ se ∧ se ≤ 4) (hb : b < bk) (hl : ∀ c, c < bk → lu c < 2 ^ 31)
    (h : (a < wy ∧ lu b ≠ 0 ∧ zc_ct bk se lu b = a) ∨ (a = wy ∧ (lu b = 0 ∨ wy ≤ zc_ct bk se lu b))) (K : post (nI a)) : wpY_age post (nI nd, nI bk, nI se, nI wy, nI wn, nI wp, hit, mis, lN ck, zm_eo ry, zm_eo eg, zm_em rr, zm_em up, zm_em lw, zm_eL lu) (nI b) := by
  have l2 := hl b hb
  by_cases z : lu b = 0
  · have e : a = wy := by
      rcases h with h | h
      · exact absurd z h.2.1
      · exact h.1
    simp (disch := omega) only [wpY_age, forall_eq, zm_em_a, zm_eo_a, zm_eL_a, zm_oi_s, zm_oi_n, zm_em_u, zm_em_u0, zm_em_b0, zm_em_b1, zm_eo_u, zm_eo_un, zm_eL_u, zm_eL_u0, nI_clamp, nI_1, nI_add, zs_m2, zs_m4, zs_m5, zs_m8, zs_d2, zs_s1, zs_in, zs_leT, zs_leF, zs_ltT, zs_ltF, zs_eqT, zs_eqF, zs_m1e, zs_oe, zs_0lt, zs_e0T, zs_e0F, zs_2n, true_implies, forall_const, not_true_eq_false, not_false_eq_true, false_implies, and_true, true_and, implies_true, zs_l1T, zs_l1F, zs_l2T, zs_l2F, zs_l4T, zs_l4F, zs_l8T, zs_l8F, zs_l16T, zs_l16F, zs_l32T, zs_l32F, zs_l64T, zs_l64F, zs_l320T, zs_l320F, zs_l513T, zs_l513F, zs_l2561T, zs_l2561F, zs_t4T, zs_t4F, zs_e1T, zs_e1F, zs_nl0T, zs_nl0F, zs_nb, pk_rem, lN_1, zs_lleT, zs_lleF, zs_le0T, zs_le0F]
    rw [← e]; exact K
  · simp (disch := omega) only [wpY_age, forall_eq, zm_em_a, zm_eo_a, zm_eL_a, zm_oi_s, zm_oi_n, zm_em_u, zm_em_u0, zm_em_b0, zm_em_b1, zm_eo_u, zm_eo_un, zm_eL_u, zm_eL_u0, nI_clamp, nI_1, nI_add, zs_m2, zs_m4, zs_m5, zs_m8, zs_d2, zs_s1, zs_in, zs_leT, zs_leF, zs_ltT, zs_ltF, zs_eqT, zs_eqF, zs_m1e, zs_oe, zs_0lt, zs_e0T, zs_e0F, zs_2n, true_implies, forall_const, not_true_eq_false, not_false_eq_true, false_implies, and_true, true_and, implies_true, zs_l1T, zs_l1F, zs_l2T, zs_l2F, zs_l4T, zs_l4F, zs_l8T, zs_l8F, zs_l16T, zs_l16F, zs_l32T, zs_l32F, zs_l64T, zs_l64F, zs_l320T, zs_l320F, zs_l513T, zs_l513F, zs_l2561T, zs_l2561F, zs_t4T, zs_t4F, zs_e1T, zs_e1F, zs_nl0T, zs_nl0F, zs_nb, pk_rem, lN_1, zs_lleT, zs_lleF, zs_le0T, zs_le0F]
    refine ⟨9, zv_ag35 h8 hw hse hb hl ?_ 9 0 (by omega) (by omega)⟩
    rcases h with h | h
    · rw [if_neg (by omega), h.2.2]; exact K
    · rw [if_pos (by omega), ← h.1]; exact K
end
end
section
/-! both constructors -/
def zi_E (i : Nat) : Nat → Option Nat := fun j => if j < i then none else some 0
theorem zi_E0 : zi_E 0 = fun _ => some 0 := funext fun j => if_neg (Nat.not_lt_zero j)
theorem zi_Es (i : Nat) : zm_uo (zi_E i) i none = zi_E (i + 1) := by
  funext j
  show (if j = i then none else if j < i then none else some 0) = if j < i + 1 then none else some 0
  by_cases e : j = i
  · rw [if_pos e, if_pos (by omega)]
  · rw [if_neg e]
    by_cases q : j < i
    · rw [if_pos q, if_pos (by omega)]
    · rw [if_neg q, if_neg (by omega)]
theorem zi_mod {b se : Nat} (h : 1 ≤ se) : (b % se + 1 = se → (b + 1) % se = 0) ∧ (b % se + 1 ≠ se → (b + 1) % se = b % se + 1) := by
  have h1 := Nat.mod_lt b (show 0 < se by omega)
  have h2 : (b % se + 1) % se = (b + 1) % se := Nat.mod_add_mod b se 1
  refine ⟨fun e => ?_, fun e => ?_⟩
  · rw [← h2, e, Nat.mod_self]
  · rw [← h2, Nat.mod_eq_of_lt (by omega)]
theorem zi_clamp (v : Int32) (g : Nat) (hg : 1 ≤ g ∧ g < 2 ^ 31) : ∃ n, 1 ≤ n ∧ n ≤ g ∧
    (∀ (post : Int32 → Prop) (a1 a2 a3 a4 a5 a6 a7 a8 a9 : Int32) (b1 b2 b3 b4 b5 b6 b7 b8 b9 b10 b11 : Nat → Int32), post (nI n) → wpX_clamp post (a1, a2, a3, a4, a5, a6, a7, a8, a9, b1, b2, b3, b4, b5, b6, b7, b8, b9, b10, b11) v (nI g)) ∧
    (∀ (post : Int32 → Prop) (a1 a2 a3 a4 a5 a6 a7 a8 : Int32) (c : Int64) (b1 b2 b3 b4 b5 : Nat → Int32) (d : Nat → Int64), post (nI n) → wpY_clamp post (a1, a2, a3, a4, a5, a6, a7, a8, c, b1, b2, b3, b4, b5, d) v (nI g)) := by
  by_cases h : (1 : Int32) ≤ v
  · obtain ⟨j, hj, rfl⟩ := nI_of (x := v) (fun z => by
      rw [Int32.lt_iff_toInt_lt, show (0 : Int32).toInt = 0 from by decide] at z
      rw [Int32.le_iff_toInt_le, show (1 : Int32).toInt = 1 from by decide] at h
      omega)
    have h1 : 1 ≤ j := (nI_leI (a := 1) (by decide) hj).mp h
    rcases Nat.lt_or_ge g j with q | q
    · exact ⟨g, hg.1, Nat.le_refl _, fun post _ _ _ _ _ _ _ _ _ _ _ _ _ _ _ _ _ _ _ _ K => br_t h (br_f (nI_ge q hj) K), fun post _ _ _ _ _ _ _ _ _ _ _ _ _ _ _ K => br_t h (br_f (nI_ge q hj) K)⟩
    · exact ⟨j, h1, q, fun post _ _ _ _ _ _ _ _ _ _ _ _ _ _ _ _ _ _ _ _ K => br_t h (br_t (nI_le q hg.2) K), fun post _ _ _ _ _ _ _ _ _ _ _ _ _ _ _ K => br_t h (br_t (nI_le q hg.2) K)⟩
  · exact ⟨1, Nat.le_refl _, hg.1, fun post _ _ _ _ _ _ _ _ _ _ _ _ _ _ _ _ _ _ _ _ K => br_f h K, fun post _ _ _ _ _ _ _ _ _ _ _ _ _ _ _ K => br_f h K⟩
section
variable {nd bk se wy st wn wp : Nat} {hit mis : Int32} {rx ln so rc iu il cu cl li fi : Nat → Nat} {eg : Nat → Option Nat}
theorem zx_164 {post : SX → Prop} (hse : 1 ≤ se ∧ se ≤ 4)
    (K : ∀ so fi : Nat → Nat, (∀ b, b < 8 → so b = b % se) → (∀ s, s < 4 → fi s = 0) → post (nI nd, nI bk, nI se, nI wy, nI 1, nI 0, nI 0, 0, 0, zm_em rx, zm_em ln, zm_eo eg, zm_em so, zm_em rc, zm_em iu, zm_em il, zm_em cu, zm_em cl, zm_em li, zm_em fi)) : ∀ f b s (so : Nat → Nat), b ≤ 8 → 8 - b < f → s = b % se → (∀ j, j < b → so j = j % se) → wX_init_164 post (nI nd) (nI bk) (nI se) (nI wy) (nI st) (nI wn) (nI wp) hit mis f (nI s) (nI b) (zm_em rx) (zm_em ln) (zm_eo eg) (zm_em so) (zm_em rc) (zm_em iu) (zm_em il) (zm_em cu) (zm_em cl) (zm_em li) (zm_em fi) := by
  intro f
  induction f with
  | zero => intro b _ _ _ h; omega
  | succ f ih =>
    intro b s so hb hf hs hso
    have hm := zi_mod (b := b) hse.1
    have hlt := Nat.mod_lt b (show 0 < se by omega)
    rcases Nat.lt_or_ge b 8 with h | h
    · by_cases e : s + 1 = se
      · simp (disch := omega) only [wX_init_164, forall_eq, zm_em_a, zm_eo_a, zm_eL_a, zm_oi_s, zm_oi_n, zm_em_u, zm_em_u0, zm_em_b0, zm_em_b1, zm_eo_u, zm_eo_un, zm_eL_u, zm_eL_u0, nI_clamp, nI_1, nI_add, zs_m2, zs_m4, zs_m5, zs_m8, zs_d2, zs_s1, zs_in, zs_leT, zs_leF, zs_ltT, zs_ltF, zs_eqT, zs_eqF, zs_m1e, zs_oe, zs_0lt, zs_e0T, zs_e0F, zs_2n, true_implies, forall_const, not_true_eq_false, not_false_eq_true, false_implies, and_true, true_and, implies_true, zs_l1T, zs_l1F, zs_l2T, zs_l2F, zs_l4T, zs_l4F, zs_l8T, zs_l8F, zs_l16T, zs_l16F, zs_l32T, zs_l32F, zs_l64T, zs_l64F, zs_l320T, zs_l320F, zs_l513T, zs_l513F, zs_l2561T, zs_l2561F, zs_t4T, zs_t4F, zs_e1T, zs_e1F, zs_nl0T, zs_nl0F, zs_nb, pk_rem, lN_1, zs_lleT, zs_lleF, zs_le0T, zs_le0F]
        exact ih (b + 1) 0 _ (by omega) (by omega) (by rw [hm.1 (by omega)]) (zm_upP (P := fun j x => x = j % se) hso hs)
      · simp (disch := omega) only [wX_init_164, forall_eq, zm_em_a, zm_eo_a, zm_eL_a, zm_oi_s, zm_oi_n, zm_em_u, zm_em_u0, zm_em_b0, zm_em_b1, zm_eo_u, zm_eo_un, zm_eL_u, zm_eL_u0, nI_clamp, nI_1, nI_add, zs_m2, zs_m4, zs_m5, zs_m8, zs_d2, zs_s1, zs_in, zs_leT, zs_leF, zs_ltT, zs_ltF, zs_eqT, zs_eqF, zs_m1e, zs_oe, zs_0lt, zs_e0T, zs_e0F, zs_2n, true_implies, forall_const, not_true_eq_false, not_false_eq_true, false_implies, and_true, true_and, implies_true, zs_l1T, zs_l1F, zs_l2T, zs_l2F, zs_l4T, zs_l4F, zs_l8T, zs_l8F, zs_l16T, zs_l16F, zs_l32T, zs_l32F, zs_l64T, zs_l64F, zs_l320T, zs_l320F, zs_l513T, zs_l513F, zs_l2561T, zs_l2561F, zs_t4T, zs_t4F, zs_e1T, zs_e1F, zs_nl0T, zs_nl0F, zs_nb, pk_rem, lN_1, zs_lleT, zs_lleF, zs_le0T, zs_le0F]
        exact ih (b + 1) (s + 1) _ (by omega) (by omega) (by rw [hm.2 (by omega), hs]) (zm_upP (P := fun j x => x = j % se) hso hs)
    · have e : b = 8 := by omega
      subst e
      simp (disch := omega) only [wX_init_164, forall_eq, zm_em_a, zm_eo_a, zm_eL_a, zm_oi_s, zm_oi_n, zm_em_u, zm_em_u0, zm_em_b0, zm_em_b1, zm_eo_u, zm_eo_un, zm_eL_u, zm_eL_u0, nI_clamp, nI_1, nI_add, zs_m2, zs_m4, zs_m5, zs_m8, zs_d2, zs_s1, zs_in, zs_leT, zs_leF, zs_ltT, zs_ltF, zs_eqT, zs_eqF, zs_m1e, zs_oe, zs_0lt, zs_e0T, zs_e0F, zs_2n, true_implies, forall_const, not_true_eq_false, not_false_eq_true, false_implies, and_true, true_and, implies_true, zs_l1T, zs_l1F, zs_l2T, zs_l2F, zs_l4T, zs_l4F, zs_l8T, zs_l8F, zs_l16T, zs_l16F, zs_l32T, zs_l32F, zs_l64T, zs_l64F, zs_l320T, zs_l320F, zs_l513T, zs_l513F, zs_l2561T, zs_l2561F, zs_t4T, zs_t4F, zs_e1T, zs_e1F, zs_nl0T, zs_nl0F, zs_nb, pk_rem, lN_1, zs_lleT, zs_lleF, zs_le0T, zs_le0F]
      exact zx_edited (fun f hf => K so f hso hf)
theorem zx_137 {post : SX → Prop} (hse : 1 ≤ se ∧ se ≤ 4)
    (K : ∀ so fi : Nat → Nat, (∀ b, b < 8 → so b = b % se) → (∀ s, s < 4 → fi s = 0) → post (nI nd, nI bk, nI se, nI wy, nI 1, nI 0, nI 0, 0, 0, zm_em rx, zm_em ln, zm_eo (zi_E 16), zm_em so, zm_em rc, zm_em iu, zm_em il, zm_em cu, zm_em cl, zm_em li, zm_em fi)) : ∀ f i, i ≤ 16 → 16 - i < f → wX_init_137 post (nI nd) (nI bk) (nI se) (nI wy) (nI st) (nI wn) (nI wp) hit mis f (nI i) (zm_em rx) (zm_em ln) (zm_eo (zi_E i)) (zm_em so) (zm_em rc) (zm_em iu) (zm_em il) (zm_em cu) (zm_em cl) (zm_em li) (zm_em fi) := by
  intro f
  induction f with
  | zero => intro b _ h; omega
  | succ f ih =>
    intro i hi hf
    rcases Nat.lt_or_ge i 16 with h | h
    · simp (disch := omega) only [wX_init_137, zi_Es, forall_eq, zm_em_a, zm_eo_a, zm_eL_a, zm_oi_s, zm_oi_n, zm_em_u, zm_em_u0, zm_em_b0, zm_em_b1, zm_eo_u, zm_eo_un, zm_eL_u, zm_eL_u0, nI_clamp, nI_1, nI_add, zs_m2, zs_m4, zs_m5, zs_m8, zs_d2, zs_s1, zs_in, zs_leT, zs_leF, zs_ltT, zs_ltF, zs_eqT, zs_eqF, zs_m1e, zs_oe, zs_0lt, zs_e0T, zs_e0F, zs_2n, true_implies, forall_const, not_true_eq_false, not_false_eq_true, false_implies, and_true, true_and, implies_true, zs_l1T, zs_l1F, zs_l2T, zs_l2F, zs_l4T, zs_l4F, zs_l8T, zs_l8F, zs_l16T, zs_l16F, zs_l32T, zs_l32F, zs_l64T, zs_l64F, zs_l320T, zs_l320F, zs_l513T, zs_l513F, zs_l2561T, zs_l2561F, zs_t4T, zs_t4F, zs_e1T, zs_e1F, zs_nl0T, zs_nl0F, zs_nb, pk_rem, lN_1, zs_lleT, zs_lleF, zs_le0T, zs_le0F]
      exact ih (i + 1) (by omega) (by omega)
    · have e : i = 16 := by omega
      subst e
      simp (disch := omega) only [wX_init_137, forall_eq, zm_em_a, zm_eo_a, zm_eL_a, zm_oi_s, zm_oi_n, zm_em_u, zm_em_u0, zm_em_b0, zm_em_b1, zm_eo_u, zm_eo_un, zm_eL_u, zm_eL_u0, nI_clamp, nI_1, nI_add, zs_m2, zs_m4, zs_m5, zs_m8, zs_d2, zs_s1, zs_in, zs_leT, zs_leF, zs_ltT, zs_ltF, zs_eqT, zs_eqF, zs_m1e, zs_oe, zs_0lt, zs_e0T, zs_e0F, zs_2n, true_implies, forall_const, not_true_eq_false, not_false_eq_true, false_implies, and_true, true_and, implies_true, zs_l1T, zs_l1F, zs_l2T, zs_l2F, zs_l4T, zs_l4F, zs_l8T, zs_l8F, zs_l16T, zs_l16F, zs_l32T, zs_l32F, zs_l64T, zs_l64F, zs_l320T, zs_l320F, zs_l513T, zs_l513F, zs_l2561T, zs_l2561F, zs_t4T, zs_t4F, zs_e1T, zs_e1F, zs_nl0T, zs_nl0F, zs_nb, pk_rem, lN_1, zs_lleT, zs_lleF, zs_le0T, zs_le0F]
      exact ⟨9, zx_164 (eg := zi_E 16) hse K 9 0 0 so (by omega) (by omega) (by rw [Nat.zero_mod]) (fun j hj => absurd hj (by omega))⟩
end
section
variable {nd bk se wy wn wp ck : Nat} {hit mis : Int32} {rr up lw lu : Nat → Nat} {ry eg : Nat → Option Nat}
theorem zv_124 {post : SY → Prop} (K : ∀ lu : Nat → Nat, (∀ b, b < 8 → lu b = 0) → post (nI nd, nI bk, nI se, nI wy, nI 0, nI 0, 0, 0, lN 0, zm_eo ry, zm_eo (zi_E 16), zm_em rr, zm_em up, zm_em lw, zm_eL lu)) : ∀ f i, i ≤ 16 → 16 - i < f → wY_init_124 post (nI nd) (nI bk) (nI se) (nI wy) (nI wn) (nI wp) hit mis (lN ck) f (nI i) (zm_eo ry) (zm_eo (zi_E i)) (zm_em rr) (zm_em up) (zm_em lw) (zm_eL lu) := by
  intro f
  induction f with
  | zero => intro b _ h; omega
  | succ f ih =>
    intro i hi hf
    rcases Nat.lt_or_ge i 16 with h | h
    · simp (disch := omega) only [wY_init_124, zi_Es, forall_eq, zm_em_a, zm_eo_a, zm_eL_a, zm_oi_s, zm_oi_n, zm_em_u, zm_em_u0, zm_em_b0, zm_em_b1, zm_eo_u, zm_eo_un, zm_eL_u, zm_eL_u0, nI_clamp, nI_1, nI_add, zs_m2, zs_m4, zs_m5, zs_m8, zs_d2, zs_s1, zs_in, zs_leT, zs_leF, zs_ltT, zs_ltF, zs_eqT, zs_eqF, zs_m1e, zs_oe, zs_0lt, zs_e0T, zs_e0F, zs_2n, true_implies, forall_const, not_true_eq_false, not_false_eq_true, false_implies, and_true, true_and, implies_true, zs_l1T, zs_l1F, zs_l2T, zs_l2F, zs_l4T, zs_l4F, zs_l8T, zs_l8F, zs_l16T, zs_l16F, zs_l32T, zs_l32F, zs_l64T, zs_l64F, zs_l320T, zs_l320F, zs_l513T, zs_l513F, zs_l2561T, zs_l2561F, zs_t4T, zs_t4F, zs_e1T, zs_e1F, zs_nl0T, zs_nl0F, zs_nb, pk_rem, lN_1, zs_lleT, zs_lleF, zs_le0T, zs_le0F]
      exact ih (i + 1) (by omega) (by omega)
    · have e : i = 16 := by omega
      subst e
      simp (disch := omega) only [wY_init_124, forall_eq, zm_em_a, zm_eo_a, zm_eL_a, zm_oi_s, zm_oi_n, zm_em_u, zm_em_u0, zm_em_b0, zm_em_b1, zm_eo_u, zm_eo_un, zm_eL_u, zm_eL_u0, nI_clamp, nI_1, nI_add, zs_m2, zs_m4, zs_m5, zs_m8, zs_d2, zs_s1, zs_in, zs_leT, zs_leF, zs_ltT, zs_ltF, zs_eqT, zs_eqF, zs_m1e, zs_oe, zs_0lt, zs_e0T, zs_e0F, zs_2n, true_implies, forall_const, not_true_eq_false, not_false_eq_true, false_implies, and_true, true_and, implies_true, zs_l1T, zs_l1F, zs_l2T, zs_l2F, zs_l4T, zs_l4F, zs_l8T, zs_l8F, zs_l16T, zs_l16F, zs_l32T, zs_l32F, zs_l64T, zs_l64F, zs_l320T, zs_l320F, zs_l513T, zs_l513F, zs_l2561T, zs_l2561F, zs_t4T, zs_t4F, zs_e1T, zs_e1F, zs_nl0T, zs_nl0F, zs_nb, pk_rem, lN_1, zs_lleT, zs_lleF, zs_le0T, zs_le0F]
      exact zv_restart (eg := zi_E 16) (fun f hf => K f hf)
theorem zv_100 {post : SY → Prop} (K : ∀ (ry : Nat → Option Nat) (lu : Nat → Nat), (∀ j, j < 32 → ry j = none) → (∀ b, b < 8 → lu b = 0) → post (nI nd, nI bk, nI se, nI wy, nI 0, nI 0, 0, 0, lN 0, zm_eo ry, zm_eo (zi_E 16), zm_em rr, zm_em up, zm_em lw, zm_eL lu)) : ∀ f i (ry : Nat → Option Nat), i ≤ 32 → 32 - i < f → (∀ j, j < i → ry j = none) → wY_init_100 post (nI nd) (nI bk) (nI se) (nI wy) (nI wn) (nI wp) hit mis (lN ck) f (nI i) (zm_eo ry) (zm_eo (zi_E 0)) (zm_em rr) (zm_em up) (zm_em lw) (zm_eL lu) := by
  intro f
  induction f with
  | zero => intro b _ _ h; omega
  | succ f ih =>
    intro i ry hi hf hr
    rcases Nat.lt_or_ge i 32 with h | h
    · simp (disch := omega) only [wY_init_100, forall_eq, zm_em_a, zm_eo_a, zm_eL_a, zm_oi_s, zm_oi_n, zm_em_u, zm_em_u0, zm_em_b0, zm_em_b1, zm_eo_u, zm_eo_un, zm_eL_u, zm_eL_u0, nI_clamp, nI_1, nI_add, zs_m2, zs_m4, zs_m5, zs_m8, zs_d2, zs_s1, zs_in, zs_leT, zs_leF, zs_ltT, zs_ltF, zs_eqT, zs_eqF, zs_m1e, zs_oe, zs_0lt, zs_e0T, zs_e0F, zs_2n, true_implies, forall_const, not_true_eq_false, not_false_eq_true, false_implies, and_true, true_and, implies_true, zs_l1T, zs_l1F, zs_l2T, zs_l2F, zs_l4T, zs_l4F, zs_l8T, zs_l8F, zs_l16T, zs_l16F, zs_l32T, zs_l32F, zs_l64T, zs_l64F, zs_l320T, zs_l320F, zs_l513T, zs_l513F, zs_l2561T, zs_l2561F, zs_t4T, zs_t4F, zs_e1T, zs_e1F, zs_nl0T, zs_nl0F, zs_nb, pk_rem, lN_1, zs_lleT, zs_lleF, zs_le0T, zs_le0F]
      refine ih (i + 1) _ (by omega) (by omega) (fun j hj => ?_)
      rcases Nat.decEq j i with e | e
      · rw [zm_uon e]; exact hr j (by omega)
      · rw [e, zm_uos]
    · have e : i = 32 := by omega
      subst e
      simp (disch := omega) only [wY_init_100, forall_eq, zm_em_a, zm_eo_a, zm_eL_a, zm_oi_s, zm_oi_n, zm_em_u, zm_em_u0, zm_em_b0, zm_em_b1, zm_eo_u, zm_eo_un, zm_eL_u, zm_eL_u0, nI_clamp, nI_1, nI_add, zs_m2, zs_m4, zs_m5, zs_m8, zs_d2, zs_s1, zs_in, zs_leT, zs_leF, zs_ltT, zs_ltF, zs_eqT, zs_eqF, zs_m1e, zs_oe, zs_0lt, zs_e0T, zs_e0F, zs_2n, true_implies, forall_const, not_true_eq_false, not_false_eq_true, false_implies, and_true, true_and, implies_true, zs_l1T, zs_l1F, zs_l2T, zs_l2F, zs_l4T, zs_l4F, zs_l8T, zs_l8F, zs_l16T, zs_l16F, zs_l32T, zs_l32F, zs_l64T, zs_l64F, zs_l320T, zs_l320F, zs_l513T, zs_l513F, zs_l2561T, zs_l2561F, zs_t4T, zs_t4F, zs_e1T, zs_e1F, zs_nl0T, zs_nl0F, zs_nb, pk_rem, lN_1, zs_lleT, zs_lleF, zs_le0T, zs_le0F]
      exact ⟨17, zv_124 (fun l hl => K ry l hr hl) 17 0 (by omega) (by omega)⟩
end
end
section
/-! the relation -/
def zi_F (k nd bk se wy st wn wp ck : Nat) (rx ln : Nat → Nat) (eg : Nat → Option Nat) (so rc iu il li fi : Nat → Nat) (ry : Nat → Option Nat) (lu : Nat → Nat) : Prop :=
  zp_H nd bk se wy ln rx eg ∧ (∀ b, b < 8 → so b = b % se) ∧ zv_ry nd ln rx ry ∧ st ≤ 1 ∧ (st = 0 → zx_A nd bk se wy ln rx eg rc iu il) ∧ wn < nd ∧ wp ≤ ln wn ∧ zc_C bk se wy li fi lu ck ∧ ck ≤ k
/-- the relation at the head of a turn whose first cell is k -/
def i_Rel (k : Nat) (u : SX) (v : SY) : Prop :=
  ∃ (nd bk se wy st wn wp ck : Nat) (hit mis : Int32) (rx ln : Nat → Nat) (eg : Nat → Option Nat) (so rc iu il cu cl li fi : Nat → Nat) (ry : Nat → Option Nat) (rr up lw lu : Nat → Nat),
    u = (nI nd, nI bk, nI se, nI wy, nI st, nI wn, nI wp, hit, mis, zm_em rx, zm_em ln, zm_eo eg, zm_em so, zm_em rc, zm_em iu, zm_em il, zm_em cu, zm_em cl, zm_em li, zm_em fi) ∧ v = (nI nd, nI bk, nI se, nI wy, nI wn, nI wp, hit, mis, lN ck, zm_eo ry, zm_eo eg, zm_em rr, zm_em up, zm_em lw, zm_eL lu) ∧ zi_F k nd bk se wy st wn wp ck rx ln eg so rc iu il li fi ry lu
theorem zi_in {k nd bk se wy st wn wp ck : Nat} {hit mis : Int32} {rx ln : Nat → Nat} {eg : Nat → Option Nat} {so rc iu il cu cl li fi : Nat → Nat} {ry : Nat → Option Nat} {rr up lw lu : Nat → Nat}
    (h : zi_F k nd bk se wy st wn wp ck rx ln eg so rc iu il li fi ry lu) : i_Rel k (nI nd, nI bk, nI se, nI wy, nI st, nI wn, nI wp, hit, mis, zm_em rx, zm_em ln, zm_eo eg, zm_em so, zm_em rc, zm_em iu, zm_em il, zm_em cu, zm_em cl, zm_em li, zm_em fi) (nI nd, nI bk, nI se, nI wy, nI wn, nI wp, hit, mis, lN ck, zm_eo ry, zm_eo eg, zm_em rr, zm_em up, zm_em lw, zm_eL lu) :=
  ⟨nd, bk, se, wy, st, wn, wp, ck, hit, mis, rx, ln, eg, so, rc, iu, il, cu, cl, li, fi, ry, rr, up, lw, lu, rfl, rfl, h⟩
theorem zi_el {k : Nat} {u : SX} {v : SY} {P : SX → SY → Prop} (I : i_Rel k u v)
    (h : ∀ (nd bk se wy st wn wp ck : Nat) (hit mis : Int32) (rx ln : Nat → Nat) (eg : Nat → Option Nat) (so rc iu il cu cl li fi : Nat → Nat) (ry : Nat → Option Nat) (rr up lw lu : Nat → Nat),
      zi_F k nd bk se wy st wn wp ck rx ln eg so rc iu il li fi ry lu → P (nI nd, nI bk, nI se, nI wy, nI st, nI wn, nI wp, hit, mis, zm_em rx, zm_em ln, zm_eo eg, zm_em so, zm_em rc, zm_em iu, zm_em il, zm_em cu, zm_em cl, zm_em li, zm_em fi) (nI nd, nI bk, nI se, nI wy, nI wn, nI wp, hit, mis, lN ck, zm_eo ry, zm_eo eg, zm_em rr, zm_em up, zm_em lw, zm_eL lu)) : P u v :=
  I.elim fun nd I => I.elim fun bk I => I.elim fun se I => I.elim fun wy I => I.elim fun st I => I.elim fun wn I => I.elim fun wp I => I.elim fun ck I => I.elim fun hit I => I.elim fun mis I => I.elim fun rx I => I.elim fun ln I => I.elim fun eg I => I.elim fun so I => I.elim fun rc I => I.elim fun iu I => I.elim fun il I => I.elim fun cu I => I.elim fun cl I => I.elim fun li I => I.elim fun fi I => I.elim fun ry I => I.elim fun rr I => I.elim fun up I => I.elim fun lw I => I.elim fun lu I => by
    have e1 := I.1
    have e2 := I.2.1
    have hF := I.2.2
    rw [e1, e2]
    exact h nd bk se wy st wn wp ck hit mis rx ln eg so rc iu il cu cl li fi ry rr up lw lu hF
theorem zi_Fup {k k' nd bk se wy st wn wp ck : Nat} {rx ln : Nat → Nat} {eg : Nat → Option Nat} {so rc iu il li fi : Nat → Nat} {ry : Nat → Option Nat} {lu : Nat → Nat} (hk : k ≤ k')
    (h : zi_F k nd bk se wy st wn wp ck rx ln eg so rc iu il li fi ry lu) : zi_F k' nd bk se wy st wn wp ck rx ln eg so rc iu il li fi ry lu :=
  ⟨h.1, h.2.1, h.2.2.1, h.2.2.2.1, h.2.2.2.2.1, h.2.2.2.2.2.1, h.2.2.2.2.2.2.1, h.2.2.2.2.2.2.2.1, Nat.le_trans h.2.2.2.2.2.2.2.2 hk⟩
/-- behind an edit of the graph -/
theorem zi_Fe {k nd bk se wy : Nat} {rx ln : Nat → Nat} {eg : Nat → Option Nat} {so rc iu il li fi : Nat → Nat} {ry : Nat → Option Nat} {lu : Nat → Nat} (H : zp_H nd bk se wy ln rx eg) (hso : ∀ b, b < 8 → so b = b % se) (hy : zv_ry nd ln rx ry)
    (hf : ∀ s, s < 4 → fi s = 0) (hl : ∀ b, b < 8 → lu b = 0) : zi_F k nd bk se wy 1 0 0 0 rx ln eg so rc iu il li fi ry lu :=
  ⟨H, hso, hy, Nat.le_refl _, fun z => absurd z (by decide), H.1.1, Nat.zero_le _, zc_0 hf hl H.2.2.1.2 H.2.1.2, Nat.zero_le _⟩
theorem i_up {k : Nat} {u : SX} {v : SY} (h : i_Rel k u v) : i_Rel (k + 4) u v :=
  zi_el (P := fun u v => i_Rel (k + 4) u v) h (fun nd bk se wy st wn wp ck hit mis rx ln eg so rc iu il cu cl li fi ry rr up lw lu hF => zi_in (zi_Fup (Nat.le_add_right k 4) hF))
theorem i_vc0 (k0 : Int32) (k1 : Int32) (k2 : Int32) (k3 : Int32) : wpX_init (fun u => wpY_init (fun v => i_Rel 4 u v) k0 k1 k2 k3) k0 k1 k2 k3 := by
  obtain ⟨nd, a1, a2, xN, yN⟩ := zi_clamp k0 8 (by decide)
  obtain ⟨bk, b1, b2, xB, yB⟩ := zi_clamp k1 8 (by decide)
  obtain ⟨se, c1, c2, xS, yS⟩ := zi_clamp k2 4 (by decide)
  obtain ⟨wy, d1, d2, xW, yW⟩ := zi_clamp k3 4 (by decide)
  unfold wpX_init
  refine xN _ _ _ _ _ _ _ _ _ _ _ _ _ _ _ _ _ _ _ _ _ ?_
  refine xB _ _ _ _ _ _ _ _ _ _ _ _ _ _ _ _ _ _ _ _ _ ?_
  refine xS _ _ _ _ _ _ _ _ _ _ _ _ _ _ _ _ _ _ _ _ _ ?_
  refine xW _ _ _ _ _ _ _ _ _ _ _ _ _ _ _ _ _ _ _ _ _ ?_
  have key := zx_137 (post := fun u => wpY_init (fun v => i_Rel 4 u v) k0 k1 k2 k3) (nd := nd) (bk := bk) (se := se) (wy := wy) (st := 0) (wn := 0) (wp := 0) (hit := 0) (mis := 0) (rx := fun _ => 0) (ln := fun _ => 0) (so := fun _ => 0) (rc := fun _ => 0) (iu := fun _ => 0) (il := fun _ => 0) (cu := fun _ => 0) (cl := fun _ => 0) (li := fun _ => 0) (fi := fun _ => 0) ⟨c1, c2⟩ ?_ 17 0 (by omega) (by omega)
  · rw [zi_E0] at key
    exact ⟨17, key⟩
  intro so fi hso hfi
  unfold wpY_init
  refine yN _ _ _ _ _ _ _ _ _ _ _ _ _ _ _ _ ?_
  refine yB _ _ _ _ _ _ _ _ _ _ _ _ _ _ _ _ ?_
  refine yS _ _ _ _ _ _ _ _ _ _ _ _ _ _ _ _ ?_
  refine yW _ _ _ _ _ _ _ _ _ _ _ _ _ _ _ _ ?_
  have key := zv_100 (post := fun v => i_Rel 4 (nI nd, nI bk, nI se, nI wy, nI 1, nI 0, nI 0, 0, 0, zm_em (fun _ => 0), zm_em (fun _ => 0), zm_eo (zi_E 16), zm_em so, zm_em (fun _ => 0), zm_em (fun _ => 0), zm_em (fun _ => 0), zm_em (fun _ => 0), zm_em (fun _ => 0), zm_em (fun _ => 0), zm_em fi) v) (nd := nd) (bk := bk) (se := se) (wy := wy) (wn := 0) (wp := 0) (hit := 0) (mis := 0) (ck := 0) (rr := fun _ => 0) (up := fun _ => 0) (lw := fun _ => 0) (lu := fun _ => 0) ?_ 33 0 (fun _ => some 0) (by omega) (by omega) (fun j hj => absurd hj (by omega))
  · rw [zi_E0] at key
    exact ⟨33, key⟩
  intro ry lu hry hlu
  refine zi_in (zi_Fe ⟨⟨a1, a2⟩, ⟨b1, b2⟩, ⟨c1, c2⟩, ⟨d1, d2⟩, fun n _ => Nat.zero_le _, fun n _ p hp => absurd hp (Nat.not_lt_zero p), fun n hn s hs t e => ?_⟩ hso (fun n hn p hp => ?_) hfi hlu)
  · have z : zi_E 16 (n * 2 + s) = none := if_pos (by omega)
    rw [z] at e; cases e
  · rw [hry _ (by omega)]; exact (if_neg (Nat.not_lt_zero p)).symm
end
section
/-! the owed statements: edits of the graph, reads -/
theorem zi_Gadd {nd bk n b : Nat} {ln rx : Nat → Nat} {eg : Nat → Option Nat} (G : zp_G nd bk ln rx eg) (hn : n < nd) (hb : b < bk) (hl : ln n < 4) : zp_G nd bk (zm_up ln n (ln n + 1)) (zm_up rx (n * 4 + ln n) b) eg := by
  refine ⟨fun m hm => ?_, fun m hm p hp => ?_, G.2.2⟩
  · rcases Nat.decEq m n with e | e
    · rw [zm_upn e]; exact G.1 m hm
    · rw [e, zm_ups]; omega
  · rcases Nat.decEq (m * 4 + p) (n * 4 + ln n) with e | e
    · rw [zm_upn e]
      rcases Nat.decEq m n with z | z
      · rw [zm_upn z] at hp; exact G.2.1 m hm p hp
      · subst z
        rw [zm_ups] at hp
        exact G.2.1 m hm p (by omega)
    · rw [e, zm_ups]; exact hb
theorem zi_Yadd {nd bk n b : Nat} {ln rx : Nat → Nat} {eg ry : Nat → Option Nat} (G : zp_G nd bk ln rx eg) (hy : zv_ry nd ln rx ry) (hn : n < nd) (hl : ln n < 4) : zv_ry nd (zm_up ln n (ln n + 1)) (zm_up rx (n * 4 + ln n) b) (zm_uo ry (n * 4 + ln n) (some b)) := by
  intro m hm p hp
  have h4 := G.1 m hm
  rcases Nat.decEq (m * 4 + p) (n * 4 + ln n) with e | e
  · rw [zm_uon e, zm_upn e, hy m hm p hp]
    rcases Nat.decEq m n with z | z
    · rw [zm_upn z]
    · subst z
      rw [zm_ups]
      by_cases q : p < ln m
      · rw [if_pos q, if_pos (by omega)]
      · rw [if_neg q, if_neg (by omega)]
  · have z : m = n := by omega
    subst z
    rw [e, zm_uos, zm_ups, zm_ups, if_pos (by omega)]
theorem zi_Gdrop {nd bk n : Nat} {ln rx : Nat → Nat} {eg : Nat → Option Nat} (G : zp_G nd bk ln rx eg) (hn : n < nd) : zp_G nd bk (zm_up ln n (ln n - 1)) rx eg := by
  refine ⟨fun m hm => ?_, fun m hm p hp => ?_, G.2.2⟩
  · have := G.1 n hn
    rcases Nat.decEq m n with e | e
    · rw [zm_upn e]; exact G.1 m hm
    · rw [e, zm_ups]; omega
  · rcases Nat.decEq m n with z | z
    · rw [zm_upn z] at hp; exact G.2.1 m hm p hp
    · subst z
      rw [zm_ups] at hp
      exact G.2.1 m hm p (by omega)
theorem zi_Ydrop {nd bk n : Nat} {ln rx : Nat → Nat} {eg ry : Nat → Option Nat} (G : zp_G nd bk ln rx eg) (hy : zv_ry nd ln rx ry) (hn : n < nd) (hl : ln n ≠ 0) : zv_ry nd (zm_up ln n (ln n - 1)) rx (zm_uo ry (n * 4 + ln n - 1) none) := by
  intro m hm p hp
  have h4 := G.1 m hm
  have h4n := G.1 n hn
  rcases Nat.decEq (m * 4 + p) (n * 4 + ln n - 1) with e | e
  · rw [zm_uon e, hy m hm p hp]
    rcases Nat.decEq m n with z | z
    · rw [zm_upn z]
    · subst z
      rw [zm_ups]
      by_cases q : p < ln m
      · rw [if_pos q, if_pos (by omega)]
      · rw [if_neg q, if_neg (by omega)]
  · have z : m = n := by omega
    subst z
    rw [e, zm_uos, zm_ups, if_neg (by omega)]
theorem zi_Gedge {nd bk n s : Nat} {ln rx : Nat → Nat} {eg : Nat → Option Nat} {o : Option Nat} (G : zp_G nd bk ln rx eg) (ho : ∀ t, o = some t → t < nd) : zp_G nd bk ln rx (zm_uo eg (n * 2 + s) o) := by
  refine ⟨G.1, G.2.1, fun m hm u hu t e => ?_⟩
  rcases Nat.decEq (m * 2 + u) (n * 2 + s) with z | z
  · rw [zm_uon z] at e; exact G.2.2 m hm u hu t e
  · rw [z, zm_uos] at e; exact ho t e
theorem zs_m1lt {n : Nat} (h : n ≤ 8) : (-1 : Int32) < nI n := by
  rw [Int32.lt_iff_toInt_lt, nI_toInt (by omega), show (-1 : Int32).toInt = -1 from by decide]; omega
theorem zs_ltm1 {v : Int32} (h : v < 0) (h2 : ¬ v = -1) : v < -1 := by
  rw [Int32.lt_iff_toInt_lt, show (0 : Int32).toInt = 0 from by decide] at h
  rw [Int32.lt_iff_toInt_lt, show (-1 : Int32).toInt = -1 from by decide]
  have : v.toInt ≠ -1 := fun z => h2 (Int32.toInt_inj.mp (z.trans (show (-1 : Int32).toInt = -1 from by decide).symm))
  omega
theorem zs_nltm1 {v : Int32} (h : ¬ v < 0) : ¬ v < -1 := by
  rw [Int32.lt_iff_toInt_lt, show (0 : Int32).toInt = 0 from by decide] at h
  rw [Int32.lt_iff_toInt_lt, show (-1 : Int32).toInt = -1 from by decide]
  omega
section
variable {nd bk se wy st wn wp : Nat} {hit mis : Int32} {rx ln so rc iu il cu cl li fi : Nat → Nat} {eg : Nat → Option Nat}
theorem zx_add2 {post : Int32 → SX → Prop} {v1 v2 : Int32} (h8 : nd ≤ 8 ∧ bk ≤ 8) (h : (v1 < 0 ∨ nI nd ≤ v1) ∨ ∃ n, n < nd ∧ v1 = nI n ∧ (v2 < 0 ∨ nI bk ≤ v2)) (K : post (-2) (nI nd, nI bk, nI se, nI wy, nI st, nI wn, nI wp, hit, mis, zm_em rx, zm_em ln, zm_eo eg, zm_em so, zm_em rc, zm_em iu, zm_em il, zm_em cu, zm_em cl, zm_em li, zm_em fi)) : wpX_addRef post (nI nd, nI bk, nI se, nI wy, nI st, nI wn, nI wp, hit, mis, zm_em rx, zm_em ln, zm_eo eg, zm_em so, zm_em rc, zm_em iu, zm_em il, zm_em cu, zm_em cl, zm_em li, zm_em fi) v1 v2 := by
  unfold wpX_addRef
  dsimp only
  rcases h with h | ⟨n, hn, rfl, h⟩
  · exact zx_nodeF h8.1 h (br_t rfl K)
  · exact zx_nodeT hn h8.1 (br_f (by decide) (zx_blockF h8.2 h (br_t rfl K)))
theorem zx_add3 {post : Int32 → SX → Prop} {n b : Nat} (h8 : nd ≤ 8 ∧ bk ≤ 8) (hn : n < nd) (hb : b < bk) (hl : ln n = 4) (K : post (-3) (nI nd, nI bk, nI se, nI wy, nI st, nI wn, nI wp, hit, mis, zm_em rx, zm_em ln, zm_eo eg, zm_em so, zm_em rc, zm_em iu, zm_em il, zm_em cu, zm_em cl, zm_em li, zm_em fi)) : wpX_addRef post (nI nd, nI bk, nI se, nI wy, nI st, nI wn, nI wp, hit, mis, zm_em rx, zm_em ln, zm_eo eg, zm_em so, zm_em rc, zm_em iu, zm_em il, zm_em cu, zm_em cl, zm_em li, zm_em fi) (nI n) (nI b) := by
  unfold wpX_addRef
  dsimp only
  refine zx_nodeT hn h8.1 (br_f (by decide) (zx_blockT hb h8.2 (br_f (by decide) ?_)))
  simp (disch := omega) only [forall_eq, zm_em_a, zm_eo_a, zm_eL_a, zm_oi_s, zm_oi_n, zm_em_u, zm_em_u0, zm_em_b0, zm_em_b1, zm_eo_u, zm_eo_un, zm_eL_u, zm_eL_u0, nI_clamp, nI_1, nI_add, zs_m2, zs_m4, zs_m5, zs_m8, zs_d2, zs_s1, zs_in, zs_leT, zs_leF, zs_ltT, zs_ltF, zs_eqT, zs_eqF, zs_m1e, zs_oe, zs_0lt, zs_e0T, zs_e0F, zs_2n, true_implies, forall_const, not_true_eq_false, not_false_eq_true, false_implies, and_true, true_and, implies_true, zs_l1T, zs_l1F, zs_l2T, zs_l2F, zs_l4T, zs_l4F, zs_l8T, zs_l8F, zs_l16T, zs_l16F, zs_l32T, zs_l32F, zs_l64T, zs_l64F, zs_l320T, zs_l320F, zs_l513T, zs_l513F, zs_l2561T, zs_l2561F, zs_t4T, zs_t4F, zs_e1T, zs_e1F, zs_nl0T, zs_nl0F, zs_nb, pk_rem, lN_1, zs_lleT, zs_lleF, zs_le0T, zs_le0F]
  exact K
theorem zx_add0 {post : Int32 → SX → Prop} {n b : Nat} (h8 : nd ≤ 8 ∧ bk ≤ 8) (hn : n < nd) (hb : b < bk) (hl : ln n < 4) (K : ∀ f : Nat → Nat, (∀ s, s < 4 → f s = 0) → post 0 (nI nd, nI bk, nI se, nI wy, nI 1, nI 0, nI 0, 0, 0, zm_em (zm_up rx (n * 4 + ln n) b), zm_em (zm_up ln n (ln n + 1)), zm_eo eg, zm_em so, zm_em rc, zm_em iu, zm_em il, zm_em cu, zm_em cl, zm_em li, zm_em f)) : wpX_addRef post (nI nd, nI bk, nI se, nI wy, nI st, nI wn, nI wp, hit, mis, zm_em rx, zm_em ln, zm_eo eg, zm_em so, zm_em rc, zm_em iu, zm_em il, zm_em cu, zm_em cl, zm_em li, zm_em fi) (nI n) (nI b) := by
  unfold wpX_addRef
  dsimp only
  refine zx_nodeT hn h8.1 (br_f (by decide) (zx_blockT hb h8.2 (br_f (by decide) ?_)))
  simp (disch := omega) only [forall_eq, zm_em_a, zm_eo_a, zm_eL_a, zm_oi_s, zm_oi_n, zm_em_u, zm_em_u0, zm_em_b0, zm_em_b1, zm_eo_u, zm_eo_un, zm_eL_u, zm_eL_u0, nI_clamp, nI_1, nI_add, zs_m2, zs_m4, zs_m5, zs_m8, zs_d2, zs_s1, zs_in, zs_leT, zs_leF, zs_ltT, zs_ltF, zs_eqT, zs_eqF, zs_m1e, zs_oe, zs_0lt, zs_e0T, zs_e0F, zs_2n, true_implies, forall_const, not_true_eq_false, not_false_eq_true, false_implies, and_true, true_and, implies_true, zs_l1T, zs_l1F, zs_l2T, zs_l2F, zs_l4T, zs_l4F, zs_l8T, zs_l8F, zs_l16T, zs_l16F, zs_l32T, zs_l32F, zs_l64T, zs_l64F, zs_l320T, zs_l320F, zs_l513T, zs_l513F, zs_l2561T, zs_l2561F, zs_t4T, zs_t4F, zs_e1T, zs_e1F, zs_nl0T, zs_nl0F, zs_nb, pk_rem, lN_1, zs_lleT, zs_lleF, zs_le0T, zs_le0F]
  exact zx_edited K
theorem zx_drop2 {post : Int32 → SX → Prop} {v1 : Int32} (h8 : nd ≤ 8) (h : v1 < 0 ∨ nI nd ≤ v1) (K : post (-2) (nI nd, nI bk, nI se, nI wy, nI st, nI wn, nI wp, hit, mis, zm_em rx, zm_em ln, zm_eo eg, zm_em so, zm_em rc, zm_em iu, zm_em il, zm_em cu, zm_em cl, zm_em li, zm_em fi)) : wpX_dropRef post (nI nd, nI bk, nI se, nI wy, nI st, nI wn, nI wp, hit, mis, zm_em rx, zm_em ln, zm_eo eg, zm_em so, zm_em rc, zm_em iu, zm_em il, zm_em cu, zm_em cl, zm_em li, zm_em fi) v1 := by
  unfold wpX_dropRef
  dsimp only
  exact zx_nodeF h8 h (br_t rfl K)
theorem zx_drop1 {post : Int32 → SX → Prop} {n : Nat} (h8 : nd ≤ 8) (hn : n < nd) (hl : ln n = 0) (K : post (-1) (nI nd, nI bk, nI se, nI wy, nI st, nI wn, nI wp, hit, mis, zm_em rx, zm_em ln, zm_eo eg, zm_em so, zm_em rc, zm_em iu, zm_em il, zm_em cu, zm_em cl, zm_em li, zm_em fi)) : wpX_dropRef post (nI nd, nI bk, nI se, nI wy, nI st, nI wn, nI wp, hit, mis, zm_em rx, zm_em ln, zm_eo eg, zm_em so, zm_em rc, zm_em iu, zm_em il, zm_em cu, zm_em cl, zm_em li, zm_em fi) (nI n) := by
  unfold wpX_dropRef
  dsimp only
  refine zx_nodeT hn h8 (br_f (by decide) ?_)
  simp (disch := omega) only [forall_eq, zm_em_a, zm_eo_a, zm_eL_a, zm_oi_s, zm_oi_n, zm_em_u, zm_em_u0, zm_em_b0, zm_em_b1, zm_eo_u, zm_eo_un, zm_eL_u, zm_eL_u0, nI_clamp, nI_1, nI_add, zs_m2, zs_m4, zs_m5, zs_m8, zs_d2, zs_s1, zs_in, zs_leT, zs_leF, zs_ltT, zs_ltF, zs_eqT, zs_eqF, zs_m1e, zs_oe, zs_0lt, zs_e0T, zs_e0F, zs_2n, true_implies, forall_const, not_true_eq_false, not_false_eq_true, false_implies, and_true, true_and, implies_true, zs_l1T, zs_l1F, zs_l2T, zs_l2F, zs_l4T, zs_l4F, zs_l8T, zs_l8F, zs_l16T, zs_l16F, zs_l32T, zs_l32F, zs_l64T, zs_l64F, zs_l320T, zs_l320F, zs_l513T, zs_l513F, zs_l2561T, zs_l2561F, zs_t4T, zs_t4F, zs_e1T, zs_e1F, zs_nl0T, zs_nl0F, zs_nb, pk_rem, lN_1, zs_lleT, zs_lleF, zs_le0T, zs_le0F]
  exact K
theorem zx_drop0 {post : Int32 → SX → Prop} {n : Nat} (h8 : nd ≤ 8) (hn : n < nd) (hl : ln n ≠ 0) (h4 : ln n ≤ 4) (K : ∀ f : Nat → Nat, (∀ s, s < 4 → f s = 0) → post (nI (rx (n * 4 + ln n - 1))) (nI nd, nI bk, nI se, nI wy, nI 1, nI 0, nI 0, 0, 0, zm_em rx, zm_em (zm_up ln n (ln n - 1)), zm_eo eg, zm_em so, zm_em rc, zm_em iu, zm_em il, zm_em cu, zm_em cl, zm_em li, zm_em f)) : wpX_dropRef post (nI nd, nI bk, nI se, nI wy, nI st, nI wn, nI wp, hit, mis, zm_em rx, zm_em ln, zm_eo eg, zm_em so, zm_em rc, zm_em iu, zm_em il, zm_em cu, zm_em cl, zm_em li, zm_em fi) (nI n) := by
  unfold wpX_dropRef
  dsimp only
  refine zx_nodeT hn h8 (br_f (by decide) ?_)
  have s1 : n * 4 + (ln n - 1) = n * 4 + ln n - 1 := by omega
  simp (disch := omega) only [forall_eq, zm_em_a, zm_eo_a, zm_eL_a, zm_oi_s, zm_oi_n, zm_em_u, zm_em_u0, zm_em_b0, zm_em_b1, zm_eo_u, zm_eo_un, zm_eL_u, zm_eL_u0, nI_clamp, nI_1, nI_add, zs_m2, zs_m4, zs_m5, zs_m8, zs_d2, zs_s1, zs_in, zs_leT, zs_leF, zs_ltT, zs_ltF, zs_eqT, zs_eqF, zs_m1e, zs_oe, zs_0lt, zs_e0T, zs_e0F, zs_2n, true_implies, forall_const, not_true_eq_false, not_false_eq_true, false_implies, and_true, true_and, implies_true, zs_l1T, zs_l1F, zs_l2T, zs_l2F, zs_l4T, zs_l4F, zs_l8T, zs_l8F, zs_l16T, zs_l16F, zs_l32T, zs_l32F, zs_l64T, zs_l64F, zs_l320T, zs_l320F, zs_l513T, zs_l513F, zs_l2561T, zs_l2561F, zs_t4T, zs_t4F, zs_e1T, zs_e1F, zs_nl0T, zs_nl0F, zs_nb, pk_rem, lN_1, zs_lleT, zs_lleF, zs_le0T, zs_le0F]
  refine zx_edited (fun f hf => ?_)
  simp (disch := omega) only [zm_ups, s1, forall_eq, zm_em_a, zm_eo_a, zm_eL_a, zm_oi_s, zm_oi_n, zm_em_u, zm_em_u0, zm_em_b0, zm_em_b1, zm_eo_u, zm_eo_un, zm_eL_u, zm_eL_u0, nI_clamp, nI_1, nI_add, zs_m2, zs_m4, zs_m5, zs_m8, zs_d2, zs_s1, zs_in, zs_leT, zs_leF, zs_ltT, zs_ltF, zs_eqT, zs_eqF, zs_m1e, zs_oe, zs_0lt, zs_e0T, zs_e0F, zs_2n, true_implies, forall_const, not_true_eq_false, not_false_eq_true, false_implies, and_true, true_and, implies_true, zs_l1T, zs_l1F, zs_l2T, zs_l2F, zs_l4T, zs_l4F, zs_l8T, zs_l8F, zs_l16T, zs_l16F, zs_l32T, zs_l32F, zs_l64T, zs_l64F, zs_l320T, zs_l320F, zs_l513T, zs_l513F, zs_l2561T, zs_l2561F, zs_t4T, zs_t4F, zs_e1T, zs_e1F, zs_nl0T, zs_nl0F, zs_nb, pk_rem, lN_1, zs_lleT, zs_lleF, zs_le0T, zs_le0F]
  exact K f hf
theorem zx_edge2 {post : Int32 → SX → Prop} {v1 v2 v3 : Int32} (h8 : nd ≤ 8) (h : (v1 < 0 ∨ nI nd ≤ v1) ∨ ∃ n, n < nd ∧ v1 = nI n ∧ ((v2 < 0 ∨ nI 2 ≤ v2) ∨ ∃ s, s < 2 ∧ v2 = nI s ∧ ¬ v3 = -1 ∧ (v3 < 0 ∨ nI nd ≤ v3))) (K : post (-2) (nI nd, nI bk, nI se, nI wy, nI st, nI wn, nI wp, hit, mis, zm_em rx, zm_em ln, zm_eo eg, zm_em so, zm_em rc, zm_em iu, zm_em il, zm_em cu, zm_em cl, zm_em li, zm_em fi)) : wpX_setEdge post (nI nd, nI bk, nI se, nI wy, nI st, nI wn, nI wp, hit, mis, zm_em rx, zm_em ln, zm_eo eg, zm_em so, zm_em rc, zm_em iu, zm_em il, zm_em cu, zm_em cl, zm_em li, zm_em fi) v1 v2 v3 := by
  unfold wpX_setEdge
  dsimp only
  rcases h with h | ⟨n, hn, rfl, h | ⟨s, hs, rfl, hm, h⟩⟩
  · exact zx_nodeF h8 h (br_t rfl K)
  · exact zx_nodeT hn h8 (br_f (by decide) (zx_slotF h (br_t rfl K)))
  · exact zx_nodeT hn h8 (br_f (by decide) (zx_slotT hs (br_f (by decide) (br_f hm (zx_nodeF h8 h (br_t rfl K))))))
theorem zx_edgeN {post : Int32 → SX → Prop} {n s : Nat} (h8 : nd ≤ 8) (hn : n < nd) (hs : s < 2) (K : ∀ f : Nat → Nat, (∀ s, s < 4 → f s = 0) → post 0 (nI nd, nI bk, nI se, nI wy, nI 1, nI 0, nI 0, 0, 0, zm_em rx, zm_em ln, zm_eo (zm_uo eg (n * 2 + s) none), zm_em so, zm_em rc, zm_em iu, zm_em il, zm_em cu, zm_em cl, zm_em li, zm_em f)) : wpX_setEdge post (nI nd, nI bk, nI se, nI wy, nI st, nI wn, nI wp, hit, mis, zm_em rx, zm_em ln, zm_eo eg, zm_em so, zm_em rc, zm_em iu, zm_em il, zm_em cu, zm_em cl, zm_em li, zm_em fi) (nI n) (nI s) (-1) := by
  unfold wpX_setEdge
  dsimp only
  refine zx_nodeT hn h8 (br_f (by decide) (zx_slotT hs (br_f (by decide) (br_t rfl ?_))))
  simp (disch := omega) only [wX_setEdge_35, forall_eq, zm_em_a, zm_eo_a, zm_eL_a, zm_oi_s, zm_oi_n, zm_em_u, zm_em_u0, zm_em_b0, zm_em_b1, zm_eo_u, zm_eo_un, zm_eL_u, zm_eL_u0, nI_clamp, nI_1, nI_add, zs_m2, zs_m4, zs_m5, zs_m8, zs_d2, zs_s1, zs_in, zs_leT, zs_leF, zs_ltT, zs_ltF, zs_eqT, zs_eqF, zs_m1e, zs_oe, zs_0lt, zs_e0T, zs_e0F, zs_2n, true_implies, forall_const, not_true_eq_false, not_false_eq_true, false_implies, and_true, true_and, implies_true, zs_l1T, zs_l1F, zs_l2T, zs_l2F, zs_l4T, zs_l4F, zs_l8T, zs_l8F, zs_l16T, zs_l16F, zs_l32T, zs_l32F, zs_l64T, zs_l64F, zs_l320T, zs_l320F, zs_l513T, zs_l513F, zs_l2561T, zs_l2561F, zs_t4T, zs_t4F, zs_e1T, zs_e1F, zs_nl0T, zs_nl0F, zs_nb, pk_rem, lN_1, zs_lleT, zs_lleF, zs_le0T, zs_le0F]
  exact zx_edited K
theorem zx_edgeS {post : Int32 → SX → Prop} {n s t : Nat} (h8 : nd ≤ 8) (hn : n < nd) (hs : s < 2) (ht : t < nd) (K : ∀ f : Nat → Nat, (∀ s, s < 4 → f s = 0) → post 0 (nI nd, nI bk, nI se, nI wy, nI 1, nI 0, nI 0, 0, 0, zm_em rx, zm_em ln, zm_eo (zm_uo eg (n * 2 + s) (some t)), zm_em so, zm_em rc, zm_em iu, zm_em il, zm_em cu, zm_em cl, zm_em li, zm_em f)) : wpX_setEdge post (nI nd, nI bk, nI se, nI wy, nI st, nI wn, nI wp, hit, mis, zm_em rx, zm_em ln, zm_eo eg, zm_em so, zm_em rc, zm_em iu, zm_em il, zm_em cu, zm_em cl, zm_em li, zm_em fi) (nI n) (nI s) (nI t) := by
  unfold wpX_setEdge
  dsimp only
  refine zx_nodeT hn h8 (br_f (by decide) (zx_slotT hs (br_f (by decide) (br_f (zs_m1n (by omega)) (zx_nodeT ht h8 (br_f (by decide) ?_))))))
  simp (disch := omega) only [wX_setEdge_35, forall_eq, zm_em_a, zm_eo_a, zm_eL_a, zm_oi_s, zm_oi_n, zm_em_u, zm_em_u0, zm_em_b0, zm_em_b1, zm_eo_u, zm_eo_un, zm_eL_u, zm_eL_u0, nI_clamp, nI_1, nI_add, zs_m2, zs_m4, zs_m5, zs_m8, zs_d2, zs_s1, zs_in, zs_leT, zs_leF, zs_ltT, zs_ltF, zs_eqT, zs_eqF, zs_m1e, zs_oe, zs_0lt, zs_e0T, zs_e0F, zs_2n, true_implies, forall_const, not_true_eq_false, not_false_eq_true, false_implies, and_true, true_and, implies_true, zs_l1T, zs_l1F, zs_l2T, zs_l2F, zs_l4T, zs_l4F, zs_l8T, zs_l8F, zs_l16T, zs_l16F, zs_l32T, zs_l32F, zs_l64T, zs_l64F, zs_l320T, zs_l320F, zs_l513T, zs_l513F, zs_l2561T, zs_l2561F, zs_t4T, zs_t4F, zs_e1T, zs_e1F, zs_nl0T, zs_nl0F, zs_nb, pk_rem, lN_1, zs_lleT, zs_lleF, zs_le0T, zs_le0F]
  exact zx_edited K
theorem zx_refF {post : Int32 → Prop} {v1 v2 : Int32} (h8 : nd ≤ 8) (h : v1 < 0 ∨ nI nd ≤ v1) (K : post (-2)) : wpX_refAt post (nI nd, nI bk, nI se, nI wy, nI st, nI wn, nI wp, hit, mis, zm_em rx, zm_em ln, zm_eo eg, zm_em so, zm_em rc, zm_em iu, zm_em il, zm_em cu, zm_em cl, zm_em li, zm_em fi) v1 v2 := by
  unfold wpX_refAt
  dsimp only
  exact zx_nodeF h8 h (br_t rfl K)
theorem zx_refN {post : Int32 → Prop} {n : Nat} {v2 : Int32} (h8 : nd ≤ 8) (hn : n < nd) (h4 : ln n ≤ 4) (h : v2 < 0 ∨ ∃ q, q < 2 ^ 31 ∧ v2 = nI q ∧ ln n ≤ q) (K : post (-1)) : wpX_refAt post (nI nd, nI bk, nI se, nI wy, nI st, nI wn, nI wp, hit, mis, zm_em rx, zm_em ln, zm_eo eg, zm_em so, zm_em rc, zm_em iu, zm_em il, zm_em cu, zm_em cl, zm_em li, zm_em fi) (nI n) v2 := by
  unfold wpX_refAt
  dsimp only
  refine zx_nodeT hn h8 (br_f (by decide) ?_)
  rcases h with h | ⟨q, hq, rfl, h⟩
  · exact br_t h K
  · simp (disch := omega) only [forall_eq, zm_em_a, zm_eo_a, zm_eL_a, zm_oi_s, zm_oi_n, zm_em_u, zm_em_u0, zm_em_b0, zm_em_b1, zm_eo_u, zm_eo_un, zm_eL_u, zm_eL_u0, nI_clamp, nI_1, nI_add, zs_m2, zs_m4, zs_m5, zs_m8, zs_d2, zs_s1, zs_in, zs_leT, zs_leF, zs_ltT, zs_ltF, zs_eqT, zs_eqF, zs_m1e, zs_oe, zs_0lt, zs_e0T, zs_e0F, zs_2n, true_implies, forall_const, not_true_eq_false, not_false_eq_true, false_implies, and_true, true_and, implies_true, zs_l1T, zs_l1F, zs_l2T, zs_l2F, zs_l4T, zs_l4F, zs_l8T, zs_l8F, zs_l16T, zs_l16F, zs_l32T, zs_l32F, zs_l64T, zs_l64F, zs_l320T, zs_l320F, zs_l513T, zs_l513F, zs_l2561T, zs_l2561F, zs_t4T, zs_t4F, zs_e1T, zs_e1F, zs_nl0T, zs_nl0F, zs_nb, pk_rem, lN_1, zs_lleT, zs_lleF, zs_le0T, zs_le0F]
    exact K
theorem zx_refS {post : Int32 → Prop} {n q : Nat} (h8 : nd ≤ 8) (hn : n < nd) (h4 : ln n ≤ 4) (hq : q < ln n) (K : post (nI (rx (n * 4 + q)))) : wpX_refAt post (nI nd, nI bk, nI se, nI wy, nI st, nI wn, nI wp, hit, mis, zm_em rx, zm_em ln, zm_eo eg, zm_em so, zm_em rc, zm_em iu, zm_em il, zm_em cu, zm_em cl, zm_em li, zm_em fi) (nI n) (nI q) := by
  unfold wpX_refAt
  dsimp only
  refine zx_nodeT hn h8 (br_f (by decide) ?_)
  simp (disch := omega) only [forall_eq, zm_em_a, zm_eo_a, zm_eL_a, zm_oi_s, zm_oi_n, zm_em_u, zm_em_u0, zm_em_b0, zm_em_b1, zm_eo_u, zm_eo_un, zm_eL_u, zm_eL_u0, nI_clamp, nI_1, nI_add, zs_m2, zs_m4, zs_m5, zs_m8, zs_d2, zs_s1, zs_in, zs_leT, zs_leF, zs_ltT, zs_ltF, zs_eqT, zs_eqF, zs_m1e, zs_oe, zs_0lt, zs_e0T, zs_e0F, zs_2n, true_implies, forall_const, not_true_eq_false, not_false_eq_true, false_implies, and_true, true_and, implies_true, zs_l1T, zs_l1F, zs_l2T, zs_l2F, zs_l4T, zs_l4F, zs_l8T, zs_l8F, zs_l16T, zs_l16F, zs_l32T, zs_l32F, zs_l64T, zs_l64F, zs_l320T, zs_l320F, zs_l513T, zs_l513F, zs_l2561T, zs_l2561F, zs_t4T, zs_t4F, zs_e1T, zs_e1F, zs_nl0T, zs_nl0F, zs_nb, pk_rem, lN_1, zs_lleT, zs_lleF, zs_le0T, zs_le0F]
  exact K
theorem zx_egF {post : Int32 → Prop} {v1 v2 : Int32} (h8 : nd ≤ 8) (h : (v1 < 0 ∨ nI nd ≤ v1) ∨ ∃ n, n < nd ∧ v1 = nI n ∧ (v2 < 0 ∨ nI 2 ≤ v2)) (K : post (-2)) : wpX_edgeAt post (nI nd, nI bk, nI se, nI wy, nI st, nI wn, nI wp, hit, mis, zm_em rx, zm_em ln, zm_eo eg, zm_em so, zm_em rc, zm_em iu, zm_em il, zm_em cu, zm_em cl, zm_em li, zm_em fi) v1 v2 := by
  unfold wpX_edgeAt
  dsimp only
  rcases h with h | ⟨n, hn, rfl, h⟩
  · exact zx_nodeF h8 h (br_t rfl K)
  · exact zx_nodeT hn h8 (br_f (by decide) (zx_slotF h (br_t rfl K)))
theorem zx_egS {post : Int32 → Prop} {n s : Nat} (h8 : nd ≤ 8) (hn : n < nd) (hs : s < 2) (K : post (zm_oi (eg (n * 2 + s)))) : wpX_edgeAt post (nI nd, nI bk, nI se, nI wy, nI st, nI wn, nI wp, hit, mis, zm_em rx, zm_em ln, zm_eo eg, zm_em so, zm_em rc, zm_em iu, zm_em il, zm_em cu, zm_em cl, zm_em li, zm_em fi) (nI n) (nI s) := by
  unfold wpX_edgeAt
  dsimp only
  refine zx_nodeT hn h8 (br_f (by decide) (zx_slotT hs (br_f (by decide) ?_)))
  simp (disch := omega) only [forall_eq, zm_em_a, zm_eo_a, zm_eL_a, zm_oi_s, zm_oi_n, zm_em_u, zm_em_u0, zm_em_b0, zm_em_b1, zm_eo_u, zm_eo_un, zm_eL_u, zm_eL_u0, nI_clamp, nI_1, nI_add, zs_m2, zs_m4, zs_m5, zs_m8, zs_d2, zs_s1, zs_in, zs_leT, zs_leF, zs_ltT, zs_ltF, zs_eqT, zs_eqF, zs_m1e, zs_oe, zs_0lt, zs_e0T, zs_e0F, zs_2n, true_implies, forall_const, not_true_eq_false, not_false_eq_true, false_implies, and_true, true_and, implies_true, zs_l1T, zs_l1F, zs_l2T, zs_l2F, zs_l4T, zs_l4F, zs_l8T, zs_l8F, zs_l16T, zs_l16F, zs_l32T, zs_l32F, zs_l64T, zs_l64F, zs_l320T, zs_l320F, zs_l513T, zs_l513F, zs_l2561T, zs_l2561F, zs_t4T, zs_t4F, zs_e1T, zs_e1F, zs_nl0T, zs_nl0F, zs_nb, pk_rem, lN_1, zs_lleT, zs_lleF, zs_le0T, zs_le0F]
  exact K
end
section
variable {nd bk se wy wn wp ck : Nat} {hit mis : Int32} {rr up lw lu : Nat → Nat} {ry eg : Nat → Option Nat}
variable {ln rx : Nat → Nat}
theorem zv_add2 {post : Int32 → SY → Prop} {v1 v2 : Int32} (h8 : nd ≤ 8 ∧ bk ≤ 8) (h : (v1 < 0 ∨ nI nd ≤ v1) ∨ ∃ n, n < nd ∧ v1 = nI n ∧ (v2 < 0 ∨ nI bk ≤ v2)) (K : post (-2) (nI nd, nI bk, nI se, nI wy, nI wn, nI wp, hit, mis, lN ck, zm_eo ry, zm_eo eg, zm_em rr, zm_em up, zm_em lw, zm_eL lu)) : wpY_addRef post (nI nd, nI bk, nI se, nI wy, nI wn, nI wp, hit, mis, lN ck, zm_eo ry, zm_eo eg, zm_em rr, zm_em up, zm_em lw, zm_eL lu) v1 v2 := by
  unfold wpY_addRef
  dsimp only
  rcases h with h | ⟨n, hn, rfl, h | h⟩
  · exact zv_nodeF h8.1 h (br_f (by decide) K)
  · exact zv_nodeT hn h8.1 (br_t rfl (br_t h K))
  · exact zv_nodeT hn h8.1 (br_t rfl (br_f (zs_hi (by omega) h) (br_f (zs_nlt h) K)))
theorem zv_add3 {post : Int32 → SY → Prop} {n b : Nat} (h8 : nd ≤ 8 ∧ bk ≤ 8) (G : zp_G nd bk ln rx eg) (hy : zv_ry nd ln rx ry) (hn : n < nd) (hb : b < bk) (hl : ln n = 4) (K : post (-3) (nI nd, nI bk, nI se, nI wy, nI wn, nI wp, hit, mis, lN ck, zm_eo ry, zm_eo eg, zm_em rr, zm_em up, zm_em lw, zm_eL lu)) : wpY_addRef post (nI nd, nI bk, nI se, nI wy, nI wn, nI wp, hit, mis, lN ck, zm_eo ry, zm_eo eg, zm_em rr, zm_em up, zm_em lw, zm_eL lu) (nI n) (nI b) := by
  unfold wpY_addRef
  dsimp only
  refine zv_nodeT hn h8.1 (br_t rfl (br_f (nI_pos (by omega)) (br_t (nI_lt hb (by omega)) (zv_len h8 G hy hn ?_))))
  exact br_f (nI_nlt (b := 4) (by omega) (by omega)) K
theorem zv_add0 {post : Int32 → SY → Prop} {n b : Nat} (h8 : nd ≤ 8 ∧ bk ≤ 8) (G : zp_G nd bk ln rx eg) (hy : zv_ry nd ln rx ry) (hn : n < nd) (hb : b < bk) (hl : ln n < 4) (K : ∀ l : Nat → Nat, (∀ b, b < 8 → l b = 0) → post 0 (nI nd, nI bk, nI se, nI wy, nI 0, nI 0, 0, 0, lN 0, zm_eo (zm_uo ry (n * 4 + ln n) (some b)), zm_eo eg, zm_em rr, zm_em up, zm_em lw, zm_eL l)) : wpY_addRef post (nI nd, nI bk, nI se, nI wy, nI wn, nI wp, hit, mis, lN ck, zm_eo ry, zm_eo eg, zm_em rr, zm_em up, zm_em lw, zm_eL lu) (nI n) (nI b) := by
  unfold wpY_addRef
  dsimp only
  refine zv_nodeT hn h8.1 (br_t rfl (br_f (nI_pos (by omega)) (br_t (nI_lt hb (by omega)) (zv_len h8 G hy hn ?_))))
  simp (disch := omega) only [forall_eq, zm_em_a, zm_eo_a, zm_eL_a, zm_oi_s, zm_oi_n, zm_em_u, zm_em_u0, zm_em_b0, zm_em_b1, zm_eo_u, zm_eo_un, zm_eL_u, zm_eL_u0, nI_clamp, nI_1, nI_add, zs_m2, zs_m4, zs_m5, zs_m8, zs_d2, zs_s1, zs_in, zs_leT, zs_leF, zs_ltT, zs_ltF, zs_eqT, zs_eqF, zs_m1e, zs_oe, zs_0lt, zs_e0T, zs_e0F, zs_2n, true_implies, forall_const, not_true_eq_false, not_false_eq_true, false_implies, and_true, true_and, implies_true, zs_l1T, zs_l1F, zs_l2T, zs_l2F, zs_l4T, zs_l4F, zs_l8T, zs_l8F, zs_l16T, zs_l16F, zs_l32T, zs_l32F, zs_l64T, zs_l64F, zs_l320T, zs_l320F, zs_l513T, zs_l513F, zs_l2561T, zs_l2561F, zs_t4T, zs_t4F, zs_e1T, zs_e1F, zs_nl0T, zs_nl0F, zs_nb, pk_rem, lN_1, zs_lleT, zs_lleF, zs_le0T, zs_le0F]
  exact zv_restart K
theorem zv_drop2 {post : Int32 → SY → Prop} {v1 : Int32} (h8 : nd ≤ 8) (h : v1 < 0 ∨ nI nd ≤ v1) (K : post (-2) (nI nd, nI bk, nI se, nI wy, nI wn, nI wp, hit, mis, lN ck, zm_eo ry, zm_eo eg, zm_em rr, zm_em up, zm_em lw, zm_eL lu)) : wpY_dropRef post (nI nd, nI bk, nI se, nI wy, nI wn, nI wp, hit, mis, lN ck, zm_eo ry, zm_eo eg, zm_em rr, zm_em up, zm_em lw, zm_eL lu) v1 := by
  unfold wpY_dropRef
  dsimp only
  exact zv_nodeF h8 h (br_f (by decide) K)
theorem zv_drop1 {post : Int32 → SY → Prop} {n : Nat} (h8 : nd ≤ 8 ∧ bk ≤ 8) (G : zp_G nd bk ln rx eg) (hy : zv_ry nd ln rx ry) (hn : n < nd) (hl : ln n = 0) (K : post (-1) (nI nd, nI bk, nI se, nI wy, nI wn, nI wp, hit, mis, lN ck, zm_eo ry, zm_eo eg, zm_em rr, zm_em up, zm_em lw, zm_eL lu)) : wpY_dropRef post (nI nd, nI bk, nI se, nI wy, nI wn, nI wp, hit, mis, lN ck, zm_eo ry, zm_eo eg, zm_em rr, zm_em up, zm_em lw, zm_eL lu) (nI n) := by
  unfold wpY_dropRef
  dsimp only
  refine zv_nodeT hn h8.1 (br_t rfl (zv_len h8 G hy hn ?_))
  exact br_t (by rw [hl]; exact nI_0) K
theorem zv_drop0 {post : Int32 → SY → Prop} {n : Nat} (h8 : nd ≤ 8 ∧ bk ≤ 8) (G : zp_G nd bk ln rx eg) (hy : zv_ry nd ln rx ry) (hn : n < nd) (hl : ln n ≠ 0) (K : ∀ l : Nat → Nat, (∀ b, b < 8 → l b = 0) → post (nI (rx (n * 4 + ln n - 1))) (nI nd, nI bk, nI se, nI wy, nI 0, nI 0, 0, 0, lN 0, zm_eo (zm_uo ry (n * 4 + ln n - 1) none), zm_eo eg, zm_em rr, zm_em up, zm_em lw, zm_eL l)) : wpY_dropRef post (nI nd, nI bk, nI se, nI wy, nI wn, nI wp, hit, mis, lN ck, zm_eo ry, zm_eo eg, zm_em rr, zm_em up, zm_em lw, zm_eL lu) (nI n) := by
  have l4 := G.1 n hn
  have e := hy n hn (ln n - 1) (by omega)
  rw [if_pos (by omega), show n * 4 + (ln n - 1) = n * 4 + ln n - 1 from by omega] at e
  unfold wpY_dropRef
  dsimp only
  refine zv_nodeT hn h8.1 (br_t rfl (zv_len h8 G hy hn ?_))
  simp (disch := omega) only [e, forall_eq, zm_em_a, zm_eo_a, zm_eL_a, zm_oi_s, zm_oi_n, zm_em_u, zm_em_u0, zm_em_b0, zm_em_b1, zm_eo_u, zm_eo_un, zm_eL_u, zm_eL_u0, nI_clamp, nI_1, nI_add, zs_m2, zs_m4, zs_m5, zs_m8, zs_d2, zs_s1, zs_in, zs_leT, zs_leF, zs_ltT, zs_ltF, zs_eqT, zs_eqF, zs_m1e, zs_oe, zs_0lt, zs_e0T, zs_e0F, zs_2n, true_implies, forall_const, not_true_eq_false, not_false_eq_true, false_implies, and_true, true_and, implies_true, zs_l1T, zs_l1F, zs_l2T, zs_l2F, zs_l4T, zs_l4F, zs_l8T, zs_l8F, zs_l16T, zs_l16F, zs_l32T, zs_l32F, zs_l64T, zs_l64F, zs_l320T, zs_l320F, zs_l513T, zs_l513F, zs_l2561T, zs_l2561F, zs_t4T, zs_t4F, zs_e1T, zs_e1F, zs_nl0T, zs_nl0F, zs_nb, pk_rem, lN_1, zs_lleT, zs_lleF, zs_le0T, zs_le0F]
  exact zv_restart K
theorem zv_edge2 {post : Int32 → SY → Prop} {v1 v2 v3 : Int32} (h8 : nd ≤ 8) (h : (v1 < 0 ∨ nI nd ≤ v1) ∨ ∃ n, n < nd ∧ v1 = nI n ∧ ((v2 < 0 ∨ nI 2 ≤ v2) ∨ ∃ s, s < 2 ∧ v2 = nI s ∧ ¬ v3 = -1 ∧ (v3 < 0 ∨ nI nd ≤ v3))) (K : post (-2) (nI nd, nI bk, nI se, nI wy, nI wn, nI wp, hit, mis, lN ck, zm_eo ry, zm_eo eg, zm_em rr, zm_em up, zm_em lw, zm_eL lu)) : wpY_setEdge post (nI nd, nI bk, nI se, nI wy, nI wn, nI wp, hit, mis, lN ck, zm_eo ry, zm_eo eg, zm_em rr, zm_em up, zm_em lw, zm_eL lu) v1 v2 v3 := by
  unfold wpY_setEdge
  dsimp only
  rcases h with h | ⟨n, hn, rfl, (h | h) | ⟨s, hs, rfl, hm, h⟩⟩
  · exact zv_nodeF h8 h (br_f (by decide) K)
  · exact zv_nodeT hn h8 (br_t rfl (br_t h K))
  · exact zv_nodeT hn h8 (br_t rfl (br_f (zs_hi (by decide) h) (br_t (zs_hi2 h).1 K)))
  · have hs1 : ¬ (1 : Int32) < nI s := nI_nlt (a := 1) (b := s) (by omega) (by decide)
    refine zv_nodeT hn h8 (br_t rfl (br_f (nI_pos (by omega)) (br_f hs1 ?_)))
    rcases h with h | h
    · exact br_t (zs_ltm1 h hm) K
    · exact br_f (zs_nltm1 (zs_hi (by omega) h)) (br_f (zs_nlt h) K)
theorem zv_edgeN {post : Int32 → SY → Prop} {n s : Nat} (h8 : nd ≤ 8) (hn : n < nd) (hs : s < 2) (K : ∀ l : Nat → Nat, (∀ b, b < 8 → l b = 0) → post 0 (nI nd, nI bk, nI se, nI wy, nI 0, nI 0, 0, 0, lN 0, zm_eo ry, zm_eo (zm_uo eg (n * 2 + s) none), zm_em rr, zm_em up, zm_em lw, zm_eL l)) : wpY_setEdge post (nI nd, nI bk, nI se, nI wy, nI wn, nI wp, hit, mis, lN ck, zm_eo ry, zm_eo eg, zm_em rr, zm_em up, zm_em lw, zm_eL lu) (nI n) (nI s) (-1) := by
  have hs1 : ¬ (1 : Int32) < nI s := nI_nlt (a := 1) (b := s) (by omega) (by decide)
  unfold wpY_setEdge
  dsimp only
  refine zv_nodeT hn h8 (br_t rfl (br_f (nI_pos (by omega)) (br_f hs1 (br_f (by decide) (br_t (zs_m1lt h8) ?_)))))
  simp (disch := omega) only [forall_eq, zm_em_a, zm_eo_a, zm_eL_a, zm_oi_s, zm_oi_n, zm_em_u, zm_em_u0, zm_em_b0, zm_em_b1, zm_eo_u, zm_eo_un, zm_eL_u, zm_eL_u0, nI_clamp, nI_1, nI_add, zs_m2, zs_m4, zs_m5, zs_m8, zs_d2, zs_s1, zs_in, zs_leT, zs_leF, zs_ltT, zs_ltF, zs_eqT, zs_eqF, zs_m1e, zs_oe, zs_0lt, zs_e0T, zs_e0F, zs_2n, true_implies, forall_const, not_true_eq_false, not_false_eq_true, false_implies, and_true, true_and, implies_true, zs_l1T, zs_l1F, zs_l2T, zs_l2F, zs_l4T, zs_l4F, zs_l8T, zs_l8F, zs_l16T, zs_l16F, zs_l32T, zs_l32F, zs_l64T, zs_l64F, zs_l320T, zs_l320F, zs_l513T, zs_l513F, zs_l2561T, zs_l2561F, zs_t4T, zs_t4F, zs_e1T, zs_e1F, zs_nl0T, zs_nl0F, zs_nb, pk_rem, lN_1, zs_lleT, zs_lleF, zs_le0T, zs_le0F]
  exact zv_restart K
theorem zv_edgeS {post : Int32 → SY → Prop} {n s t : Nat} (h8 : nd ≤ 8) (hn : n < nd) (hs : s < 2) (ht : t < nd) (K : ∀ l : Nat → Nat, (∀ b, b < 8 → l b = 0) → post 0 (nI nd, nI bk, nI se, nI wy, nI 0, nI 0, 0, 0, lN 0, zm_eo ry, zm_eo (zm_uo eg (n * 2 + s) (some t)), zm_em rr, zm_em up, zm_em lw, zm_eL l)) : wpY_setEdge post (nI nd, nI bk, nI se, nI wy, nI wn, nI wp, hit, mis, lN ck, zm_eo ry, zm_eo eg, zm_em rr, zm_em up, zm_em lw, zm_eL lu) (nI n) (nI s) (nI t) := by
  have hs1 : ¬ (1 : Int32) < nI s := nI_nlt (a := 1) (b := s) (by omega) (by decide)
  unfold wpY_setEdge
  dsimp only
  refine zv_nodeT hn h8 (br_t rfl (br_f (nI_pos (by omega)) (br_f hs1 (br_f (zs_nltm1 (nI_pos (by omega))) (br_t (nI_lt ht (by omega)) ?_)))))
  simp (disch := omega) only [forall_eq, zm_em_a, zm_eo_a, zm_eL_a, zm_oi_s, zm_oi_n, zm_em_u, zm_em_u0, zm_em_b0, zm_em_b1, zm_eo_u, zm_eo_un, zm_eL_u, zm_eL_u0, nI_clamp, nI_1, nI_add, zs_m2, zs_m4, zs_m5, zs_m8, zs_d2, zs_s1, zs_in, zs_leT, zs_leF, zs_ltT, zs_ltF, zs_eqT, zs_eqF, zs_m1e, zs_oe, zs_0lt, zs_e0T, zs_e0F, zs_2n, true_implies, forall_const, not_true_eq_false, not_false_eq_true, false_implies, and_true, true_and, implies_true, zs_l1T, zs_l1F, zs_l2T, zs_l2F, zs_l4T, zs_l4F, zs_l8T, zs_l8F, zs_l16T, zs_l16F, zs_l32T, zs_l32F, zs_l64T, zs_l64F, zs_l320T, zs_l320F, zs_l513T, zs_l513F, zs_l2561T, zs_l2561F, zs_t4T, zs_t4F, zs_e1T, zs_e1F, zs_nl0T, zs_nl0F, zs_nb, pk_rem, lN_1, zs_lleT, zs_lleF, zs_le0T, zs_le0F]
  exact zv_restart K
theorem zv_refF {post : Int32 → Prop} {v1 v2 : Int32} (h8 : nd ≤ 8) (h : v1 < 0 ∨ nI nd ≤ v1) (K : post (-2)) : wpY_refAt post (nI nd, nI bk, nI se, nI wy, nI wn, nI wp, hit, mis, lN ck, zm_eo ry, zm_eo eg, zm_em rr, zm_em up, zm_em lw, zm_eL lu) v1 v2 := by
  unfold wpY_refAt
  dsimp only
  exact zv_nodeF h8 h (br_f (by decide) K)
theorem zv_refN {post : Int32 → Prop} {n : Nat} {v2 : Int32} (h8 : nd ≤ 8 ∧ bk ≤ 8) (G : zp_G nd bk ln rx eg) (hy : zv_ry nd ln rx ry) (hn : n < nd) (h : v2 < 0 ∨ ∃ q, q < 2 ^ 31 ∧ v2 = nI q ∧ ln n ≤ q) (K : post (-1)) : wpY_refAt post (nI nd, nI bk, nI se, nI wy, nI wn, nI wp, hit, mis, lN ck, zm_eo ry, zm_eo eg, zm_em rr, zm_em up, zm_em lw, zm_eL lu) (nI n) v2 := by
  unfold wpY_refAt
  dsimp only
  refine zv_nodeT hn h8.1 (br_t rfl ?_)
  rcases h with h | ⟨q, hq, rfl, h⟩
  · exact br_t h K
  · exact br_f (nI_pos hq) (zv_len h8 G hy hn (br_f (nI_nlt h hq) K))
theorem zv_refS {post : Int32 → Prop} {n q : Nat} (h8 : nd ≤ 8 ∧ bk ≤ 8) (G : zp_G nd bk ln rx eg) (hy : zv_ry nd ln rx ry) (hn : n < nd) (hq : q < ln n) (K : post (nI (rx (n * 4 + q)))) : wpY_refAt post (nI nd, nI bk, nI se, nI wy, nI wn, nI wp, hit, mis, lN ck, zm_eo ry, zm_eo eg, zm_em rr, zm_em up, zm_em lw, zm_eL lu) (nI n) (nI q) := by
  have l4 := G.1 n hn
  have e := hy n hn q (by omega)
  rw [if_pos hq] at e
  unfold wpY_refAt
  dsimp only
  refine zv_nodeT hn h8.1 (br_t rfl (br_f (nI_pos (by omega)) (zv_len h8 G hy hn ?_)))
  simp (disch := omega) only [e, forall_eq, zm_em_a, zm_eo_a, zm_eL_a, zm_oi_s, zm_oi_n, zm_em_u, zm_em_u0, zm_em_b0, zm_em_b1, zm_eo_u, zm_eo_un, zm_eL_u, zm_eL_u0, nI_clamp, nI_1, nI_add, zs_m2, zs_m4, zs_m5, zs_m8, zs_d2, zs_s1, zs_in, zs_leT, zs_leF, zs_ltT, zs_ltF, zs_eqT, zs_eqF, zs_m1e, zs_oe, zs_0lt, zs_e0T, zs_e0F, zs_2n, true_implies, forall_const, not_true_eq_false, not_false_eq_true, false_implies, and_true, true_and, implies_true, zs_l1T, zs_l1F, zs_l2T, zs_l2F, zs_l4T, zs_l4F, zs_l8T, zs_l8F, zs_l16T, zs_l16F, zs_l32T, zs_l32F, zs_l64T, zs_l64F, zs_l320T, zs_l320F, zs_l513T, zs_l513F, zs_l2561T, zs_l2561F, zs_t4T, zs_t4F, zs_e1T, zs_e1F, zs_nl0T, zs_nl0F, zs_nb, pk_rem, lN_1, zs_lleT, zs_lleF, zs_le0T, zs_le0F]
  exact K
theorem zv_egF {post : Int32 → Prop} {v1 v2 : Int32} (h8 : nd ≤ 8) (h : (v1 < 0 ∨ nI nd ≤ v1) ∨ ∃ n, n < nd ∧ v1 = nI n ∧ (v2 < 0 ∨ nI 2 ≤ v2)) (K : post (-2)) : wpY_edgeAt post (nI nd, nI bk, nI se, nI wy, nI wn, nI wp, hit, mis, lN ck, zm_eo ry, zm_eo eg, zm_em rr, zm_em up, zm_em lw, zm_eL lu) v1 v2 := by
  unfold wpY_edgeAt
  dsimp only
  rcases h with h | ⟨n, hn, rfl, h | h⟩
  · exact zv_nodeF h8 h (br_f (by decide) K)
  · exact zv_nodeT hn h8 (br_t rfl (br_t h K))
  · exact zv_nodeT hn h8 (br_t rfl (br_f (zs_hi (by decide) h) (br_f (zs_hi2 h).2.2.2 K)))
theorem zv_egS {post : Int32 → Prop} {n s : Nat} (h8 : nd ≤ 8) (hn : n < nd) (hs : s < 2) (K : post (zm_oi (eg (n * 2 + s)))) : wpY_edgeAt post (nI nd, nI bk, nI se, nI wy, nI wn, nI wp, hit, mis, lN ck, zm_eo ry, zm_eo eg, zm_em rr, zm_em up, zm_em lw, zm_eL lu) (nI n) (nI s) := by
  have hs1 : nI s ≤ (1 : Int32) := nI_le (a := s) (b := 1) (by omega) (by decide)
  unfold wpY_edgeAt
  dsimp only
  refine zv_nodeT hn h8 (br_t rfl (br_f (nI_pos (by omega)) (br_t hs1 ?_)))
  simp (disch := omega) only [forall_eq, zm_em_a, zm_eo_a, zm_eL_a, zm_oi_s, zm_oi_n, zm_em_u, zm_em_u0, zm_em_b0, zm_em_b1, zm_eo_u, zm_eo_un, zm_eL_u, zm_eL_u0, nI_clamp, nI_1, nI_add, zs_m2, zs_m4, zs_m5, zs_m8, zs_d2, zs_s1, zs_in, zs_leT, zs_leF, zs_ltT, zs_ltF, zs_eqT, zs_eqF, zs_m1e, zs_oe, zs_0lt, zs_e0T, zs_e0F, zs_2n, true_implies, forall_const, not_true_eq_false, not_false_eq_true, false_implies, and_true, true_and, implies_true, zs_l1T, zs_l1F, zs_l2T, zs_l2F, zs_l4T, zs_l4F, zs_l8T, zs_l8F, zs_l16T, zs_l16F, zs_l32T, zs_l32F, zs_l64T, zs_l64F, zs_l320T, zs_l320F, zs_l513T, zs_l513F, zs_l2561T, zs_l2561F, zs_t4T, zs_t4F, zs_e1T, zs_e1F, zs_nl0T, zs_nl0F, zs_nb, pk_rem, lN_1, zs_lleT, zs_lleF, zs_le0T, zs_le0F]
  exact K
end
end
section
/-! the owed statements: edits of the graph, reads -/
theorem i_vc_addRef {k : Nat} {u : SX} {v : SY} (I : i_Rel k u v) (hk : k + 4 ≤ 2052) (v1 : Int32) (v2 : Int32) : wpX_addRef (fun r u' => wpY_addRef (fun r' v' => r' = r ∧ i_Rel (k + 4) u' v') v v1 v2) u v1 v2 := by
  refine zi_el (P := fun u v => wpX_addRef (fun r u' => wpY_addRef (fun r' v' => r' = r ∧ i_Rel (k + 4) u' v') v v1 v2) u v1 v2) I ?_
  intro nd bk se wy st wn wp ck hit mis rx ln eg so rc iu il cu cl li fi ry rr up lw lu hF
  obtain ⟨H, hso, hy, hst, A, hwn, hwp, C, hck⟩ := hF
  have hFs : zi_F (k + 4) nd bk se wy st wn wp ck rx ln eg so rc iu il li fi ry lu := ⟨H, hso, hy, hst, A, hwn, hwp, C, by omega⟩
  have h8 := H.1
  have b8 := H.2.1
  have G := H.2.2.2.2
  by_cases hb : (v1 < 0 ∨ nI nd ≤ v1) ∨ ∃ n, n < nd ∧ v1 = nI n ∧ (v2 < 0 ∨ nI bk ≤ v2)
  · exact zx_add2 ⟨h8.2, b8.2⟩ hb (zv_add2 ⟨h8.2, b8.2⟩ hb ⟨rfl, zi_in hFs⟩)
  rcases pk_ix v1 (n := nd) (by omega) with h | h | ⟨n, hn, rfl⟩
  · exact absurd (Or.inl (Or.inl h)) hb
  · exact absurd (Or.inl (Or.inr h)) hb
  rcases pk_ix v2 (n := bk) (by omega) with h | h | ⟨b, hb', rfl⟩
  · exact absurd (Or.inr ⟨n, hn, rfl, Or.inl h⟩) hb
  · exact absurd (Or.inr ⟨n, hn, rfl, Or.inr h⟩) hb
  have l4 := G.1 n hn
  rcases Nat.lt_or_ge (ln n) 4 with q | q
  · exact zx_add0 ⟨h8.2, b8.2⟩ hn hb' q (fun f hf => zv_add0 ⟨h8.2, b8.2⟩ G hy hn hb' q (fun l hl => ⟨rfl, zi_in (zi_Fe ⟨h8, b8, H.2.2.1, H.2.2.2.1, zi_Gadd G hn hb' q⟩ hso (zi_Yadd G hy hn q) hf hl)⟩))
  · have q4 : ln n = 4 := by omega
    exact zx_add3 ⟨h8.2, b8.2⟩ hn hb' q4 (zv_add3 ⟨h8.2, b8.2⟩ G hy hn hb' q4 ⟨rfl, zi_in hFs⟩)
theorem i_vc_dropRef {k : Nat} {u : SX} {v : SY} (I : i_Rel k u v) (hk : k + 4 ≤ 2052) (v1 : Int32) : wpX_dropRef (fun r u' => wpY_dropRef (fun r' v' => r' = r ∧ i_Rel (k + 4) u' v') v v1) u v1 := by
  refine zi_el (P := fun u v => wpX_dropRef (fun r u' => wpY_dropRef (fun r' v' => r' = r ∧ i_Rel (k + 4) u' v') v v1) u v1) I ?_
  intro nd bk se wy st wn wp ck hit mis rx ln eg so rc iu il cu cl li fi ry rr up lw lu hF
  obtain ⟨H, hso, hy, hst, A, hwn, hwp, C, hck⟩ := hF
  have hFs : zi_F (k + 4) nd bk se wy st wn wp ck rx ln eg so rc iu il li fi ry lu := ⟨H, hso, hy, hst, A, hwn, hwp, C, by omega⟩
  have h8 := H.1
  have b8 := H.2.1
  have G := H.2.2.2.2
  by_cases hb : v1 < 0 ∨ nI nd ≤ v1
  · exact zx_drop2 h8.2 hb (zv_drop2 h8.2 hb ⟨rfl, zi_in hFs⟩)
  rcases pk_ix v1 (n := nd) (by omega) with h | h | ⟨n, hn, rfl⟩
  · exact absurd (Or.inl h) hb
  · exact absurd (Or.inr h) hb
  have l4 := G.1 n hn
  by_cases q : ln n = 0
  · exact zx_drop1 h8.2 hn q (zv_drop1 ⟨h8.2, b8.2⟩ G hy hn q ⟨rfl, zi_in hFs⟩)
  · exact zx_drop0 h8.2 hn q l4 (fun f hf => zv_drop0 ⟨h8.2, b8.2⟩ G hy hn q (fun l hl => ⟨rfl, zi_in (zi_Fe ⟨h8, b8, H.2.2.1, H.2.2.2.1, zi_Gdrop G hn⟩ hso (zi_Ydrop G hy hn q) hf hl)⟩))
theorem i_vc_setEdge {k : Nat} {u : SX} {v : SY} (I : i_Rel k u v) (hk : k + 4 ≤ 2052) (v1 : Int32) (v2 : Int32) (v3 : Int32) : wpX_setEdge (fun r u' => wpY_setEdge (fun r' v' => r' = r ∧ i_Rel (k + 4) u' v') v v1 v2 v3) u v1 v2 v3 := by
  refine zi_el (P := fun u v => wpX_setEdge (fun r u' => wpY_setEdge (fun r' v' => r' = r ∧ i_Rel (k + 4) u' v') v v1 v2 v3) u v1 v2 v3) I ?_
  intro nd bk se wy st wn wp ck hit mis rx ln eg so rc iu il cu cl li fi ry rr up lw lu hF
  obtain ⟨H, hso, hy, hst, A, hwn, hwp, C, hck⟩ := hF
  have hFs : zi_F (k + 4) nd bk se wy st wn wp ck rx ln eg so rc iu il li fi ry lu := ⟨H, hso, hy, hst, A, hwn, hwp, C, by omega⟩
  have h8 := H.1
  have b8 := H.2.1
  have G := H.2.2.2.2
  by_cases hb : (v1 < 0 ∨ nI nd ≤ v1) ∨ ∃ n, n < nd ∧ v1 = nI n ∧ ((v2 < 0 ∨ nI 2 ≤ v2) ∨ ∃ s, s < 2 ∧ v2 = nI s ∧ ¬ v3 = -1 ∧ (v3 < 0 ∨ nI nd ≤ v3))
  · exact zx_edge2 h8.2 hb (zv_edge2 h8.2 hb ⟨rfl, zi_in hFs⟩)
  rcases pk_ix v1 (n := nd) (by omega) with h | h | ⟨n, hn, rfl⟩
  · exact absurd (Or.inl (Or.inl h)) hb
  · exact absurd (Or.inl (Or.inr h)) hb
  rcases pk_ix v2 (n := 2) (by omega) with h | h | ⟨s, hs, rfl⟩
  · exact absurd (Or.inr ⟨n, hn, rfl, Or.inl (Or.inl h)⟩) hb
  · exact absurd (Or.inr ⟨n, hn, rfl, Or.inl (Or.inr h)⟩) hb
  by_cases em : v3 = -1
  · subst em
    exact zx_edgeN h8.2 hn hs (fun f hf => zv_edgeN h8.2 hn hs (fun l hl => ⟨rfl, zi_in (zi_Fe ⟨h8, b8, H.2.2.1, H.2.2.2.1, zi_Gedge G (fun t z => by cases z)⟩ hso hy hf hl)⟩))
  rcases pk_ix v3 (n := nd) (by omega) with h | h | ⟨t, ht, rfl⟩
  · exact absurd (Or.inr ⟨n, hn, rfl, Or.inr ⟨s, hs, rfl, em, Or.inl h⟩⟩) hb
  · exact absurd (Or.inr ⟨n, hn, rfl, Or.inr ⟨s, hs, rfl, em, Or.inr h⟩⟩) hb
  · exact zx_edgeS h8.2 hn hs ht (fun f hf => zv_edgeS h8.2 hn hs ht (fun l hl => ⟨rfl, zi_in (zi_Fe ⟨h8, b8, H.2.2.1, H.2.2.2.1, zi_Gedge G (fun t' z => by cases z; exact ht)⟩ hso hy hf hl)⟩))
theorem i_vc_refAt {k : Nat} {u : SX} {v : SY} (I : i_Rel k u v) (hk : k + 4 ≤ 2052) (v1 : Int32) (v2 : Int32) : wpX_refAt (fun r => wpY_refAt (fun r' => r' = r ∧ i_Rel (k + 4) u v) v v1 v2) u v1 v2 := by
  refine zi_el (P := fun u v => wpX_refAt (fun r => wpY_refAt (fun r' => r' = r ∧ i_Rel (k + 4) u v) v v1 v2) u v1 v2) I ?_
  intro nd bk se wy st wn wp ck hit mis rx ln eg so rc iu il cu cl li fi ry rr up lw lu hF
  obtain ⟨H, hso, hy, hst, A, hwn, hwp, C, hck⟩ := hF
  have hFs : zi_F (k + 4) nd bk se wy st wn wp ck rx ln eg so rc iu il li fi ry lu := ⟨H, hso, hy, hst, A, hwn, hwp, C, by omega⟩
  have h8 := H.1
  have b8 := H.2.1
  have G := H.2.2.2.2
  by_cases hb : v1 < 0 ∨ nI nd ≤ v1
  · exact zx_refF h8.2 hb (zv_refF h8.2 hb ⟨rfl, zi_in hFs⟩)
  rcases pk_ix v1 (n := nd) (by omega) with h | h | ⟨n, hn, rfl⟩
  · exact absurd (Or.inl h) hb
  · exact absurd (Or.inr h) hb
  have l4 := G.1 n hn
  by_cases h1 : v2 < 0
  · exact zx_refN h8.2 hn l4 (Or.inl h1) (zv_refN ⟨h8.2, b8.2⟩ G hy hn (Or.inl h1) ⟨rfl, zi_in hFs⟩)
  obtain ⟨q, hq, rfl⟩ := nI_of h1
  rcases Nat.lt_or_ge q (ln n) with z | z
  · exact zx_refS h8.2 hn l4 z (zv_refS ⟨h8.2, b8.2⟩ G hy hn z ⟨rfl, zi_in hFs⟩)
  · exact zx_refN h8.2 hn l4 (Or.inr ⟨q, hq, rfl, z⟩) (zv_refN ⟨h8.2, b8.2⟩ G hy hn (Or.inr ⟨q, hq, rfl, z⟩) ⟨rfl, zi_in hFs⟩)
theorem i_vc_edgeAt {k : Nat} {u : SX} {v : SY} (I : i_Rel k u v) (hk : k + 4 ≤ 2052) (v1 : Int32) (v2 : Int32) : wpX_edgeAt (fun r => wpY_edgeAt (fun r' => r' = r ∧ i_Rel (k + 4) u v) v v1 v2) u v1 v2 := by
  refine zi_el (P := fun u v => wpX_edgeAt (fun r => wpY_edgeAt (fun r' => r' = r ∧ i_Rel (k + 4) u v) v v1 v2) u v1 v2) I ?_
  intro nd bk se wy st wn wp ck hit mis rx ln eg so rc iu il cu cl li fi ry rr up lw lu hF
  obtain ⟨H, hso, hy, hst, A, hwn, hwp, C, hck⟩ := hF
  have hFs : zi_F (k + 4) nd bk se wy st wn wp ck rx ln eg so rc iu il li fi ry lu := ⟨H, hso, hy, hst, A, hwn, hwp, C, by omega⟩
  have h8 := H.1
  have b8 := H.2.1
  have G := H.2.2.2.2
  by_cases hb : (v1 < 0 ∨ nI nd ≤ v1) ∨ ∃ n, n < nd ∧ v1 = nI n ∧ (v2 < 0 ∨ nI 2 ≤ v2)
  · exact zx_egF h8.2 hb (zv_egF h8.2 hb ⟨rfl, zi_in hFs⟩)
  rcases pk_ix v1 (n := nd) (by omega) with h | h | ⟨n, hn, rfl⟩
  · exact absurd (Or.inl (Or.inl h)) hb
  · exact absurd (Or.inl (Or.inr h)) hb
  rcases pk_ix v2 (n := 2) (by omega) with h | h | ⟨s, hs, rfl⟩
  · exact absurd (Or.inr ⟨n, hn, rfl, Or.inl h⟩) hb
  · exact absurd (Or.inr ⟨n, hn, rfl, Or.inr h⟩) hb
  exact zx_egS h8.2 hn hs (zv_egS h8.2 hn hs ⟨rfl, zi_in hFs⟩)
end
section
/-! the owed statements: questions about the bounds -/
section
variable {nd bk se wy st wn wp : Nat} {hit mis : Int32} {rx ln so rc iu il cu cl li fi : Nat → Nat} {eg : Nat → Option Nat}
theorem zx_upF {post : Int32 → SX → Prop} {v1 v2 v3 : Int32} (H : zp_H nd bk se wy ln rx eg) (hb : zp_bad nd bk ln v1 v2 v3) (K : post (-2) (nI nd, nI bk, nI se, nI wy, nI st, nI wn, nI wp, hit, mis, zm_em rx, zm_em ln, zm_eo eg, zm_em so, zm_em rc, zm_em iu, zm_em il, zm_em cu, zm_em cl, zm_em li, zm_em fi)) : wpX_upper post (nI nd, nI bk, nI se, nI wy, nI st, nI wn, nI wp, hit, mis, zm_em rx, zm_em ln, zm_eo eg, zm_em so, zm_em rc, zm_em iu, zm_em il, zm_em cu, zm_em cl, zm_em li, zm_em fi) v1 v2 v3 := by
  unfold wpX_upper
  dsimp only
  exact zx_prepF H hb (br_f (by decide) K)
theorem zx_loF {post : Int32 → SX → Prop} {v1 v2 v3 : Int32} (H : zp_H nd bk se wy ln rx eg) (hb : zp_bad nd bk ln v1 v2 v3) (K : post (-2) (nI nd, nI bk, nI se, nI wy, nI st, nI wn, nI wp, hit, mis, zm_em rx, zm_em ln, zm_eo eg, zm_em so, zm_em rc, zm_em iu, zm_em il, zm_em cu, zm_em cl, zm_em li, zm_em fi)) : wpX_lower post (nI nd, nI bk, nI se, nI wy, nI st, nI wn, nI wp, hit, mis, zm_em rx, zm_em ln, zm_eo eg, zm_em so, zm_em rc, zm_em iu, zm_em il, zm_em cu, zm_em cl, zm_em li, zm_em fi) v1 v2 v3 := by
  unfold wpX_lower
  dsimp only
  exact zx_prepF H hb (br_f (by decide) K)
theorem zx_upT {post : Int32 → SX → Prop} {n q b : Nat} (H : zp_H nd bk se wy ln rx eg) (hso : ∀ b, b < 8 → so b = b % se) (hst : st ≤ 1) (A : st = 0 → zx_A nd bk se wy ln rx eg rc iu il) (hn : n < nd) (hq : q ≤ ln n) (hb : b < bk)
    (K4 : ¬ zp_R nd eg n → ∀ rc iu il cu cl : Nat → Nat, zx_A nd bk se wy ln rx eg rc iu il → post (-4) (nI nd, nI bk, nI se, nI wy, nI 0, nI wn, nI wp, hit, mis, zm_em rx, zm_em ln, zm_eo eg, zm_em so, zm_em rc, zm_em iu, zm_em il, zm_em cu, zm_em cl, zm_em li, zm_em fi))
    (K0 : zp_R nd eg n → ∀ rc iu il cu cl : Nat → Nat, zx_A nd bk se wy ln rx eg rc iu il → post (nI (zp_vU nd bk se wy ln rx eg n q b)) (nI nd, nI bk, nI se, nI wy, nI 0, nI wn, nI wp, hit, mis, zm_em rx, zm_em ln, zm_eo eg, zm_em so, zm_em rc, zm_em iu, zm_em il, zm_em cu, zm_em cl, zm_em li, zm_em fi)) : wpX_upper post (nI nd, nI bk, nI se, nI wy, nI st, nI wn, nI wp, hit, mis, zm_em rx, zm_em ln, zm_eo eg, zm_em so, zm_em rc, zm_em iu, zm_em il, zm_em cu, zm_em cl, zm_em li, zm_em fi) (nI n) (nI q) (nI b) := by
  have b8 := H.2.1
  unfold wpX_upper
  dsimp only
  refine zx_prepT H hso hst A hn hq hb (fun hR rc iu il cu cl A' => br_f (by decide) (K4 hR rc iu il cu cl A')) (fun hR rc iu il cu cl A' hc => br_t rfl ⟨vp_in_nI (by omega) (by decide), ?_⟩)
  dsimp only
  rw [nI_clamp (show b < 2 ^ 31 by omega), zm_em_a, (hc b hb).1]
  exact K0 hR rc iu il cu cl A'
theorem zx_loT {post : Int32 → SX → Prop} {n q b : Nat} (H : zp_H nd bk se wy ln rx eg) (hso : ∀ b, b < 8 → so b = b % se) (hst : st ≤ 1) (A : st = 0 → zx_A nd bk se wy ln rx eg rc iu il) (hn : n < nd) (hq : q ≤ ln n) (hb : b < bk)
    (K4 : ¬ zp_R nd eg n → ∀ rc iu il cu cl : Nat → Nat, zx_A nd bk se wy ln rx eg rc iu il → post (-4) (nI nd, nI bk, nI se, nI wy, nI 0, nI wn, nI wp, hit, mis, zm_em rx, zm_em ln, zm_eo eg, zm_em so, zm_em rc, zm_em iu, zm_em il, zm_em cu, zm_em cl, zm_em li, zm_em fi))
    (K0 : zp_R nd eg n → ∀ rc iu il cu cl : Nat → Nat, zx_A nd bk se wy ln rx eg rc iu il → post (nI (zp_vL nd bk se wy ln rx eg n q b)) (nI nd, nI bk, nI se, nI wy, nI 0, nI wn, nI wp, hit, mis, zm_em rx, zm_em ln, zm_eo eg, zm_em so, zm_em rc, zm_em iu, zm_em il, zm_em cu, zm_em cl, zm_em li, zm_em fi)) : wpX_lower post (nI nd, nI bk, nI se, nI wy, nI st, nI wn, nI wp, hit, mis, zm_em rx, zm_em ln, zm_eo eg, zm_em so, zm_em rc, zm_em iu, zm_em il, zm_em cu, zm_em cl, zm_em li, zm_em fi) (nI n) (nI q) (nI b) := by
  have b8 := H.2.1
  unfold wpX_lower
  dsimp only
  refine zx_prepT H hso hst A hn hq hb (fun hR rc iu il cu cl A' => br_f (by decide) (K4 hR rc iu il cu cl A')) (fun hR rc iu il cu cl A' hc => br_t rfl ⟨vp_in_nI (by omega) (by decide), ?_⟩)
  dsimp only
  rw [nI_clamp (show b < 2 ^ 31 by omega), zm_em_a, (hc b hb).2]
  exact K0 hR rc iu il cu cl A'
end
section
variable {nd bk se wy wn wp ck : Nat} {hit mis : Int32} {rr up lw lu : Nat → Nat} {ry eg : Nat → Option Nat}
variable {ln rx : Nat → Nat}
theorem zv_upF {post : Int32 → SY → Prop} {v1 v2 v3 : Int32} (H : zp_H nd bk se wy ln rx eg) (hy : zv_ry nd ln rx ry) (hb : zp_bad nd bk ln v1 v2 v3) (K : post (-2) (nI nd, nI bk, nI se, nI wy, nI wn, nI wp, hit, mis, lN ck, zm_eo ry, zm_eo eg, zm_em rr, zm_em up, zm_em lw, zm_eL lu)) : wpY_upper post (nI nd, nI bk, nI se, nI wy, nI wn, nI wp, hit, mis, lN ck, zm_eo ry, zm_eo eg, zm_em rr, zm_em up, zm_em lw, zm_eL lu) v1 v2 v3 := by
  unfold wpY_upper
  dsimp only
  exact zv_lookF H hy hb (br_f (by decide) K)
theorem zv_loF {post : Int32 → SY → Prop} {v1 v2 v3 : Int32} (H : zp_H nd bk se wy ln rx eg) (hy : zv_ry nd ln rx ry) (hb : zp_bad nd bk ln v1 v2 v3) (K : post (-2) (nI nd, nI bk, nI se, nI wy, nI wn, nI wp, hit, mis, lN ck, zm_eo ry, zm_eo eg, zm_em rr, zm_em up, zm_em lw, zm_eL lu)) : wpY_lower post (nI nd, nI bk, nI se, nI wy, nI wn, nI wp, hit, mis, lN ck, zm_eo ry, zm_eo eg, zm_em rr, zm_em up, zm_em lw, zm_eL lu) v1 v2 v3 := by
  unfold wpY_lower
  dsimp only
  exact zv_lookF H hy hb (br_f (by decide) K)
theorem zv_upT {post : Int32 → SY → Prop} {n q b : Nat} (H : zp_H nd bk se wy ln rx eg) (hy : zv_ry nd ln rx ry) (hn : n < nd) (hq : q ≤ ln n) (hb : b < bk)
    (K4 : ¬ zp_R nd eg n → ∀ rr up lw : Nat → Nat, post (-4) (nI nd, nI bk, nI se, nI wy, nI wn, nI wp, hit, mis, lN ck, zm_eo ry, zm_eo eg, zm_em rr, zm_em up, zm_em lw, zm_eL lu))
    (K0 : zp_R nd eg n → ∀ rr up lw : Nat → Nat, post (nI (zp_vU nd bk se wy ln rx eg n q b)) (nI nd, nI bk, nI se, nI wy, nI wn, nI wp, hit, mis, lN ck, zm_eo ry, zm_eo eg, zm_em rr, zm_em up, zm_em lw, zm_eL lu)) : wpY_upper post (nI nd, nI bk, nI se, nI wy, nI wn, nI wp, hit, mis, lN ck, zm_eo ry, zm_eo eg, zm_em rr, zm_em up, zm_em lw, zm_eL lu) (nI n) (nI q) (nI b) := by
  have h8 := H.1
  have b8 := H.2.1
  have l4 := H.2.2.2.2.1 n hn
  unfold wpY_upper
  dsimp only
  refine zv_lookT H hy hn hq hb (fun hR rr up lw => br_f (by decide) (K4 hR rr up lw)) (fun hR rr up lw A hr => br_t rfl ?_)
  have e := (A.2.2.2 n hn hr q hq b hb).1
  simp (disch := omega) only [e, forall_eq, zm_em_a, zm_eo_a, zm_eL_a, zm_oi_s, zm_oi_n, zm_em_u, zm_em_u0, zm_em_b0, zm_em_b1, zm_eo_u, zm_eo_un, zm_eL_u, zm_eL_u0, nI_clamp, nI_1, nI_add, zs_m2, zs_m4, zs_m5, zs_m8, zs_d2, zs_s1, zs_in, zs_leT, zs_leF, zs_ltT, zs_ltF, zs_eqT, zs_eqF, zs_m1e, zs_oe, zs_0lt, zs_e0T, zs_e0F, zs_2n, true_implies, forall_const, not_true_eq_false, not_false_eq_true, false_implies, and_true, true_and, implies_true, zs_l1T, zs_l1F, zs_l2T, zs_l2F, zs_l4T, zs_l4F, zs_l8T, zs_l8F, zs_l16T, zs_l16F, zs_l32T, zs_l32F, zs_l64T, zs_l64F, zs_l320T, zs_l320F, zs_l513T, zs_l513F, zs_l2561T, zs_l2561F, zs_t4T, zs_t4F, zs_e1T, zs_e1F, zs_nl0T, zs_nl0F, zs_nb, pk_rem, lN_1, zs_lleT, zs_lleF, zs_le0T, zs_le0F]
  exact K0 hR rr up lw
theorem zv_loT {post : Int32 → SY → Prop} {n q b : Nat} (H : zp_H nd bk se wy ln rx eg) (hy : zv_ry nd ln rx ry) (hn : n < nd) (hq : q ≤ ln n) (hb : b < bk)
    (K4 : ¬ zp_R nd eg n → ∀ rr up lw : Nat → Nat, post (-4) (nI nd, nI bk, nI se, nI wy, nI wn, nI wp, hit, mis, lN ck, zm_eo ry, zm_eo eg, zm_em rr, zm_em up, zm_em lw, zm_eL lu))
    (K0 : zp_R nd eg n → ∀ rr up lw : Nat → Nat, post (nI (zp_vL nd bk se wy ln rx eg n q b)) (nI nd, nI bk, nI se, nI wy, nI wn, nI wp, hit, mis, lN ck, zm_eo ry, zm_eo eg, zm_em rr, zm_em up, zm_em lw, zm_eL lu)) : wpY_lower post (nI nd, nI bk, nI se, nI wy, nI wn, nI wp, hit, mis, lN ck, zm_eo ry, zm_eo eg, zm_em rr, zm_em up, zm_em lw, zm_eL lu) (nI n) (nI q) (nI b) := by
  have h8 := H.1
  have b8 := H.2.1
  have l4 := H.2.2.2.2.1 n hn
  unfold wpY_lower
  dsimp only
  refine zv_lookT H hy hn hq hb (fun hR rr up lw => br_f (by decide) (K4 hR rr up lw)) (fun hR rr up lw A hr => br_t rfl ?_)
  have e := (A.2.2.2 n hn hr q hq b hb).2
  simp (disch := omega) only [e, forall_eq, zm_em_a, zm_eo_a, zm_eL_a, zm_oi_s, zm_oi_n, zm_em_u, zm_em_u0, zm_em_b0, zm_em_b1, zm_eo_u, zm_eo_un, zm_eL_u, zm_eL_u0, nI_clamp, nI_1, nI_add, zs_m2, zs_m4, zs_m5, zs_m8, zs_d2, zs_s1, zs_in, zs_leT, zs_leF, zs_ltT, zs_ltF, zs_eqT, zs_eqF, zs_m1e, zs_oe, zs_0lt, zs_e0T, zs_e0F, zs_2n, true_implies, forall_const, not_true_eq_false, not_false_eq_true, false_implies, and_true, true_and, implies_true, zs_l1T, zs_l1F, zs_l2T, zs_l2F, zs_l4T, zs_l4F, zs_l8T, zs_l8F, zs_l16T, zs_l16F, zs_l32T, zs_l32F, zs_l64T, zs_l64F, zs_l320T, zs_l320F, zs_l513T, zs_l513F, zs_l2561T, zs_l2561F, zs_t4T, zs_t4F, zs_e1T, zs_e1F, zs_nl0T, zs_nl0F, zs_nb, pk_rem, lN_1, zs_lleT, zs_lleF, zs_le0T, zs_le0F]
  exact K0 hR rr up lw
end
theorem i_vc_upper {k : Nat} {u : SX} {v : SY} (I : i_Rel k u v) (hk : k + 4 ≤ 2052) (v1 : Int32) (v2 : Int32) (v3 : Int32) : wpX_upper (fun r u' => wpY_upper (fun r' v' => r' = r ∧ i_Rel (k + 4) u' v') v v1 v2 v3) u v1 v2 v3 := by
  refine zi_el (P := fun u v => wpX_upper (fun r u' => wpY_upper (fun r' v' => r' = r ∧ i_Rel (k + 4) u' v') v v1 v2 v3) u v1 v2 v3) I ?_
  intro nd bk se wy st wn wp ck hit mis rx ln eg so rc iu il cu cl li fi ry rr up lw lu hF
  obtain ⟨H, hso, hy, hst, A, hwn, hwp, C, hck⟩ := hF
  have hFs : zi_F (k + 4) nd bk se wy st wn wp ck rx ln eg so rc iu il li fi ry lu := ⟨H, hso, hy, hst, A, hwn, hwp, C, by omega⟩
  have h8 := H.1
  have b8 := H.2.1
  have G := H.2.2.2.2
  rcases zp_bad_or (ln := ln) ⟨h8.2, b8.2⟩ v1 v2 v3 with hb | ⟨n, q, b, hn, hq, hb, rfl, rfl, rfl⟩
  · exact zx_upF H hb (zv_upF H hy hb ⟨rfl, zi_in hFs⟩)
  · refine zx_upT H hso hst A hn hq hb (fun hR rc iu il cu cl A' => ?_) (fun hR rc iu il cu cl A' => ?_)
    · exact zv_upT H hy hn hq hb (fun _ rr up lw => ⟨rfl, zi_in (st := 0) ⟨H, hso, hy, by omega, fun _ => A', hwn, hwp, C, by omega⟩⟩) (fun hR' => absurd hR' hR)
    · exact zv_upT H hy hn hq hb (fun hR' => absurd hR hR') (fun _ rr up lw => ⟨rfl, zi_in (st := 0) ⟨H, hso, hy, by omega, fun _ => A', hwn, hwp, C, by omega⟩⟩)
theorem i_vc_lower {k : Nat} {u : SX} {v : SY} (I : i_Rel k u v) (hk : k + 4 ≤ 2052) (v1 : Int32) (v2 : Int32) (v3 : Int32) : wpX_lower (fun r u' => wpY_lower (fun r' v' => r' = r ∧ i_Rel (k + 4) u' v') v v1 v2 v3) u v1 v2 v3 := by
  refine zi_el (P := fun u v => wpX_lower (fun r u' => wpY_lower (fun r' v' => r' = r ∧ i_Rel (k + 4) u' v') v v1 v2 v3) u v1 v2 v3) I ?_
  intro nd bk se wy st wn wp ck hit mis rx ln eg so rc iu il cu cl li fi ry rr up lw lu hF
  obtain ⟨H, hso, hy, hst, A, hwn, hwp, C, hck⟩ := hF
  have hFs : zi_F (k + 4) nd bk se wy st wn wp ck rx ln eg so rc iu il li fi ry lu := ⟨H, hso, hy, hst, A, hwn, hwp, C, by omega⟩
  have h8 := H.1
  have b8 := H.2.1
  have G := H.2.2.2.2
  rcases zp_bad_or (ln := ln) ⟨h8.2, b8.2⟩ v1 v2 v3 with hb | ⟨n, q, b, hn, hq, hb, rfl, rfl, rfl⟩
  · exact zx_loF H hb (zv_loF H hy hb ⟨rfl, zi_in hFs⟩)
  · refine zx_loT H hso hst A hn hq hb (fun hR rc iu il cu cl A' => ?_) (fun hR rc iu il cu cl A' => ?_)
    · exact zv_loT H hy hn hq hb (fun _ rr up lw => ⟨rfl, zi_in (st := 0) ⟨H, hso, hy, by omega, fun _ => A', hwn, hwp, C, by omega⟩⟩) (fun hR' => absurd hR' hR)
    · exact zv_loT H hy hn hq hb (fun hR' => absurd hR hR') (fun _ rr up lw => ⟨rfl, zi_in (st := 0) ⟨H, hso, hy, by omega, fun _ => A', hwn, hwp, C, by omega⟩⟩)
theorem i_vc_classify {k : Nat} {u : SX} {v : SY} (I : i_Rel k u v) (hk : k + 4 ≤ 2052) (v1 : Int32) (v2 : Int32) : wpX_classify (fun r u' => wpY_classify (fun r' v' => r' = r ∧ i_Rel (k + 4) u' v') v v1 v2) u v1 v2 := by
  refine zi_el (P := fun u v => wpX_classify (fun r u' => wpY_classify (fun r' v' => r' = r ∧ i_Rel (k + 4) u' v') v v1 v2) u v1 v2) I ?_
  intro nd bk se wy st wn wp ck hit mis rx ln eg so rc iu il cu cl li fi ry rr up lw lu hF
  obtain ⟨H, hso, hy, hst, A, hwn, hwp, C, hck⟩ := hF
  have hFs : zi_F (k + 4) nd bk se wy st wn wp ck rx ln eg so rc iu il li fi ry lu := ⟨H, hso, hy, hst, A, hwn, hwp, C, by omega⟩
  have h8 := H.1
  have b8 := H.2.1
  have G := H.2.2.2.2
  rcases zp_bad2_or (ln := ln) h8.2 v1 v2 with hb | ⟨n, q, hn, hq, rfl, rfl⟩
  · exact zx_clsF H hb (zv_clsF H hy hb ⟨rfl, zi_in hFs⟩)
  · exact zx_clsT H hso hst A hn hq (fun rc iu il cu cl A' => zv_clsT H hy hn hq (fun rr up lw => ⟨rfl, zi_in (st := 0) ⟨H, hso, hy, by omega, fun _ => A', hwn, hwp, C, by omega⟩⟩))
theorem i_vc_count {k : Nat} {u : SX} {v : SY} (I : i_Rel k u v) (hk : k + 4 ≤ 2052) (v1 : Int32) : wpX_count (fun r u' => wpY_count (fun r' v' => r' = r ∧ i_Rel (k + 4) u' v') v v1) u v1 := by
  refine zi_el (P := fun u v => wpX_count (fun r u' => wpY_count (fun r' v' => r' = r ∧ i_Rel (k + 4) u' v') v v1) u v1) I ?_
  intro nd bk se wy st wn wp ck hit mis rx ln eg so rc iu il cu cl li fi ry rr up lw lu hF
  obtain ⟨H, hso, hy, hst, A, hwn, hwp, C, hck⟩ := hF
  have hFs : zi_F (k + 4) nd bk se wy st wn wp ck rx ln eg so rc iu il li fi ry lu := ⟨H, hso, hy, hst, A, hwn, hwp, C, by omega⟩
  have h8 := H.1
  have b8 := H.2.1
  have G := H.2.2.2.2
  by_cases hb : v1 = 1 ∨ v1 = 2 ∨ v1 = 3 ∨ v1 = -4
  · exact zx_count H hso hst A hb (fun st rc iu il cu cl hst A' => zv_count H hy hb (fun rr up lw => ⟨rfl, zi_in ⟨H, hso, hy, hst, A', hwn, hwp, C, by omega⟩⟩))
  · have n1 : ¬ v1 = 1 := fun z => hb (Or.inl z)
    have n2 : ¬ v1 = 2 := fun z => hb (Or.inr (Or.inl z))
    have n3 : ¬ v1 = 3 := fun z => hb (Or.inr (Or.inr (Or.inl z)))
    have n4 : ¬ v1 = -4 := fun z => hb (Or.inr (Or.inr (Or.inr z)))
    exact br_f n1 (br_f n2 (br_f n3 (br_f n4 (br_f n1 (br_f n2 (br_f n3 (br_f n4 ⟨rfl, zi_in hFs⟩)))))))
end
section
/-! the owed statements: the walker -/
theorem zi_acc {bk se wy ck b : Nat} {li fi lu : Nat → Nat} (hw : 1 ≤ wy ∧ wy ≤ 4) (hse : 1 ≤ se) (C : zc_C bk se wy li fi lu ck) (hb : b < bk) : ∃ a hole f',
    a ≤ wy ∧ ((a < fi (b % se) ∧ li (b % se * 4 + a) = b ∧ ∀ j, j < fi (b % se) → j ≠ a → li (b % se * 4 + j) ≠ b) ∨ (a = wy ∧ ∀ j, j < fi (b % se) → li (b % se * 4 + j) ≠ b)) ∧
    ((a < wy ∧ lu b ≠ 0 ∧ zc_ct bk se lu b = a) ∨ (a = wy ∧ (lu b = 0 ∨ wy ≤ zc_ct bk se lu b))) ∧
    ((a < wy ∧ hole = a ∧ f' = fi (b % se)) ∨ (a = wy ∧ fi (b % se) < wy ∧ hole = fi (b % se) ∧ f' = fi (b % se) + 1) ∨ (a = wy ∧ fi (b % se) = wy ∧ hole + 1 = wy ∧ f' = wy)) ∧
    (hole < f' ∧ f' ≤ wy) ∧ (f' = fi (b % se) ∨ (f' = fi (b % se) + 1 ∧ hole = fi (b % se))) ∧ (∀ i, i < fi (b % se) → i ≠ hole → li (b % se * 4 + i) ≠ b) ∧ (hole < fi (b % se) → li (b % se * 4 + hole) = b ∨ hole + 1 = wy) := by
  have hs : b % se < se := Nat.mod_lt _ hse
  have hf := C.1 _ hs
  rcases zc_age hw.1 hse C hb with ⟨a, ha, ea, hne, hz, hct⟩ | ⟨hne, hz⟩
  · have hlt : a < wy := by omega
    exact ⟨a, a, fi (b % se), Nat.le_of_lt hlt, Or.inl ⟨ha, ea, hne⟩, Or.inl ⟨hlt, hz, hct⟩, Or.inl ⟨hlt, rfl, rfl⟩, ⟨ha, hf⟩, Or.inl rfl, hne, fun _ => Or.inl ea⟩
  · rcases Nat.lt_or_ge (fi (b % se)) wy with q | q
    · exact ⟨wy, fi (b % se), fi (b % se) + 1, Nat.le_refl _, Or.inr ⟨rfl, hne⟩, Or.inr ⟨rfl, hz⟩, Or.inr (Or.inl ⟨rfl, q, rfl, rfl⟩), ⟨Nat.lt_succ_self _, q⟩, Or.inr ⟨rfl, rfl⟩, fun i hi _ => hne i hi, fun z => absurd z (Nat.lt_irrefl _)⟩
    · have e : fi (b % se) = wy := Nat.le_antisymm hf q
      exact ⟨wy, wy - 1, wy, Nat.le_refl _, Or.inr ⟨rfl, hne⟩, Or.inr ⟨rfl, hz⟩, Or.inr (Or.inr ⟨rfl, e, by omega, rfl⟩), ⟨by omega, Nat.le_refl _⟩, Or.inl e.symm, fun i hi _ => hne i hi, fun _ => Or.inr (by omega)⟩
section
variable {nd bk se wy st wn wp : Nat} {hit mis : Int32} {rx ln so rc iu il cu cl li fi : Nat → Nat} {eg : Nat → Option Nat}
theorem zx_acN {post : Int32 → SX → Prop} (h8 : nd ≤ 8) (hn : wn < nd) (h4 : ln wn ≤ 4) (h : wp = ln wn) (K : post (-1) (nI nd, nI bk, nI se, nI wy, nI st, nI wn, nI wp, hit, mis, zm_em rx, zm_em ln, zm_eo eg, zm_em so, zm_em rc, zm_em iu, zm_em il, zm_em cu, zm_em cl, zm_em li, zm_em fi)) : wpX_access post (nI nd, nI bk, nI se, nI wy, nI st, nI wn, nI wp, hit, mis, zm_em rx, zm_em ln, zm_eo eg, zm_em so, zm_em rc, zm_em iu, zm_em il, zm_em cu, zm_em cl, zm_em li, zm_em fi) := by
  simp (disch := omega) only [wpX_access, forall_eq, zm_em_a, zm_eo_a, zm_eL_a, zm_oi_s, zm_oi_n, zm_em_u, zm_em_u0, zm_em_b0, zm_em_b1, zm_eo_u, zm_eo_un, zm_eL_u, zm_eL_u0, nI_clamp, nI_1, nI_add, zs_m2, zs_m4, zs_m5, zs_m8, zs_d2, zs_s1, zs_in, zs_leT, zs_leF, zs_ltT, zs_ltF, zs_eqT, zs_eqF, zs_m1e, zs_oe, zs_0lt, zs_e0T, zs_e0F, zs_2n, true_implies, forall_const, not_true_eq_false, not_false_eq_true, false_implies, and_true, true_and, implies_true, zs_l1T, zs_l1F, zs_l2T, zs_l2F, zs_l4T, zs_l4F, zs_l8T, zs_l8F, zs_l16T, zs_l16F, zs_l32T, zs_l32F, zs_l64T, zs_l64F, zs_l320T, zs_l320F, zs_l513T, zs_l513F, zs_l2561T, zs_l2561F, zs_t4T, zs_t4F, zs_e1T, zs_e1F, zs_nl0T, zs_nl0F, zs_nb, pk_rem, lN_1, zs_lleT, zs_lleF, zs_le0T, zs_le0F]
  exact K
theorem zx_acT {post : Int32 → SX → Prop} {b a hole f' : Nat} (H : zp_H nd bk se wy ln rx eg) (hso : ∀ b, b < 8 → so b = b % se) (hn : wn < nd) (h : wp < ln wn) (hb : rx (wn * 4 + wp) = b) (hbk : b < bk) (hf : fi (b % se) ≤ wy) (hl : ∀ j, j < fi (b % se) → li (b % se * 4 + j) < 8) (ha : a ≤ wy)
    (h1 : (a < fi (b % se) ∧ li (b % se * 4 + a) = b ∧ ∀ j, j < fi (b % se) → j ≠ a → li (b % se * 4 + j) ≠ b) ∨ (a = wy ∧ ∀ j, j < fi (b % se) → li (b % se * 4 + j) ≠ b))
    (h3 : (a < wy ∧ hole = a ∧ f' = fi (b % se)) ∨ (a = wy ∧ fi (b % se) < wy ∧ hole = fi (b % se) ∧ f' = fi (b % se) + 1) ∨ (a = wy ∧ fi (b % se) = wy ∧ hole + 1 = wy ∧ f' = wy))
    (K0 : a = wy → ∀ l f : Nat → Nat, (∀ j, l j = zc_mv li (b % se * 4) hole b j) → (∀ s, f s = if s = b % se then f' else fi s) → post 0 (nI nd, nI bk, nI se, nI wy, nI st, nI wn, nI (wp + 1), hit, mis + 1, zm_em rx, zm_em ln, zm_eo eg, zm_em so, zm_em rc, zm_em iu, zm_em il, zm_em cu, zm_em cl, zm_em l, zm_em f))
    (K1 : a < wy → ∀ l f : Nat → Nat, (∀ j, l j = zc_mv li (b % se * 4) hole b j) → (∀ s, f s = if s = b % se then f' else fi s) → post 1 (nI nd, nI bk, nI se, nI wy, nI st, nI wn, nI (wp + 1), hit + 1, mis, zm_em rx, zm_em ln, zm_eo eg, zm_em so, zm_em rc, zm_em iu, zm_em il, zm_em cu, zm_em cl, zm_em l, zm_em f)) : wpX_access post (nI nd, nI bk, nI se, nI wy, nI st, nI wn, nI wp, hit, mis, zm_em rx, zm_em ln, zm_eo eg, zm_em so, zm_em rc, zm_em iu, zm_em il, zm_em cu, zm_em cl, zm_em li, zm_em fi) := by
  have h8 := H.1
  have b8 := H.2.1
  have hw := H.2.2.2.1
  have l4 := H.2.2.2.2.1 wn hn
  simp (disch := omega) only [wpX_access, hb, forall_eq, zm_em_a, zm_eo_a, zm_eL_a, zm_oi_s, zm_oi_n, zm_em_u, zm_em_u0, zm_em_b0, zm_em_b1, zm_eo_u, zm_eo_un, zm_eL_u, zm_eL_u0, nI_clamp, nI_1, nI_add, zs_m2, zs_m4, zs_m5, zs_m8, zs_d2, zs_s1, zs_in, zs_leT, zs_leF, zs_ltT, zs_ltF, zs_eqT, zs_eqF, zs_m1e, zs_oe, zs_0lt, zs_e0T, zs_e0F, zs_2n, true_implies, forall_const, not_true_eq_false, not_false_eq_true, false_implies, and_true, true_and, implies_true, zs_l1T, zs_l1F, zs_l2T, zs_l2F, zs_l4T, zs_l4F, zs_l8T, zs_l8F, zs_l16T, zs_l16F, zs_l32T, zs_l32F, zs_l64T, zs_l64F, zs_l320T, zs_l320F, zs_l513T, zs_l513F, zs_l2561T, zs_l2561F, zs_t4T, zs_t4F, zs_e1T, zs_e1F, zs_nl0T, zs_nl0F, zs_nb, pk_rem, lN_1, zs_lleT, zs_lleF, zs_le0T, zs_le0F]
  refine zx_cAge hw.2 H.2.2.1 hso (by omega) hf hl h1 ?_
  refine zx_move hw H.2.2.1 hso (by omega) hf h3 (fun l f hl' hf' => ?_)
  rcases Nat.lt_or_ge a wy with q | q
  · simp (disch := omega) only [forall_eq, zm_em_a, zm_eo_a, zm_eL_a, zm_oi_s, zm_oi_n, zm_em_u, zm_em_u0, zm_em_b0, zm_em_b1, zm_eo_u, zm_eo_un, zm_eL_u, zm_eL_u0, nI_clamp, nI_1, nI_add, zs_m2, zs_m4, zs_m5, zs_m8, zs_d2, zs_s1, zs_in, zs_leT, zs_leF, zs_ltT, zs_ltF, zs_eqT, zs_eqF, zs_m1e, zs_oe, zs_0lt, zs_e0T, zs_e0F, zs_2n, true_implies, forall_const, not_true_eq_false, not_false_eq_true, false_implies, and_true, true_and, implies_true, zs_l1T, zs_l1F, zs_l2T, zs_l2F, zs_l4T, zs_l4F, zs_l8T, zs_l8F, zs_l16T, zs_l16F, zs_l32T, zs_l32F, zs_l64T, zs_l64F, zs_l320T, zs_l320F, zs_l513T, zs_l513F, zs_l2561T, zs_l2561F, zs_t4T, zs_t4F, zs_e1T, zs_e1F, zs_nl0T, zs_nl0F, zs_nb, pk_rem, lN_1, zs_lleT, zs_lleF, zs_le0T, zs_le0F]
    exact K1 q l f hl' hf'
  · simp (disch := omega) only [forall_eq, zm_em_a, zm_eo_a, zm_eL_a, zm_oi_s, zm_oi_n, zm_em_u, zm_em_u0, zm_em_b0, zm_em_b1, zm_eo_u, zm_eo_un, zm_eL_u, zm_eL_u0, nI_clamp, nI_1, nI_add, zs_m2, zs_m4, zs_m5, zs_m8, zs_d2, zs_s1, zs_in, zs_leT, zs_leF, zs_ltT, zs_ltF, zs_eqT, zs_eqF, zs_m1e, zs_oe, zs_0lt, zs_e0T, zs_e0F, zs_2n, true_implies, forall_const, not_true_eq_false, not_false_eq_true, false_implies, and_true, true_and, implies_true, zs_l1T, zs_l1F, zs_l2T, zs_l2F, zs_l4T, zs_l4F, zs_l8T, zs_l8F, zs_l16T, zs_l16F, zs_l32T, zs_l32F, zs_l64T, zs_l64F, zs_l320T, zs_l320F, zs_l513T, zs_l513F, zs_l2561T, zs_l2561F, zs_t4T, zs_t4F, zs_e1T, zs_e1F, zs_nl0T, zs_nl0F, zs_nb, pk_rem, lN_1, zs_lleT, zs_lleF, zs_le0T, zs_le0F]
    exact K0 (by omega) l f hl' hf'
theorem zx_foF {post : Int32 → SX → Prop} {v1 : Int32} (h8 : nd ≤ 8) (hn : wn < nd) (h4 : ln wn ≤ 4) (h : (v1 < 0 ∨ nI 2 ≤ v1) ∨ ∃ s, s < 2 ∧ v1 = nI s ∧ wp < ln wn) (K : post (-2) (nI nd, nI bk, nI se, nI wy, nI st, nI wn, nI wp, hit, mis, zm_em rx, zm_em ln, zm_eo eg, zm_em so, zm_em rc, zm_em iu, zm_em il, zm_em cu, zm_em cl, zm_em li, zm_em fi)) : wpX_follow post (nI nd, nI bk, nI se, nI wy, nI st, nI wn, nI wp, hit, mis, zm_em rx, zm_em ln, zm_eo eg, zm_em so, zm_em rc, zm_em iu, zm_em il, zm_em cu, zm_em cl, zm_em li, zm_em fi) v1 := by
  unfold wpX_follow
  dsimp only
  rcases h with h | ⟨s, hs, rfl, h⟩
  · exact zx_slotF h (br_t rfl K)
  · refine zx_slotT hs (br_f (by decide) ?_)
    simp (disch := omega) only [forall_eq, zm_em_a, zm_eo_a, zm_eL_a, zm_oi_s, zm_oi_n, zm_em_u, zm_em_u0, zm_em_b0, zm_em_b1, zm_eo_u, zm_eo_un, zm_eL_u, zm_eL_u0, nI_clamp, nI_1, nI_add, zs_m2, zs_m4, zs_m5, zs_m8, zs_d2, zs_s1, zs_in, zs_leT, zs_leF, zs_ltT, zs_ltF, zs_eqT, zs_eqF, zs_m1e, zs_oe, zs_0lt, zs_e0T, zs_e0F, zs_2n, true_implies, forall_const, not_true_eq_false, not_false_eq_true, false_implies, and_true, true_and, implies_true, zs_l1T, zs_l1F, zs_l2T, zs_l2F, zs_l4T, zs_l4F, zs_l8T, zs_l8F, zs_l16T, zs_l16F, zs_l32T, zs_l32F, zs_l64T, zs_l64F, zs_l320T, zs_l320F, zs_l513T, zs_l513F, zs_l2561T, zs_l2561F, zs_t4T, zs_t4F, zs_e1T, zs_e1F, zs_nl0T, zs_nl0F, zs_nb, pk_rem, lN_1, zs_lleT, zs_lleF, zs_le0T, zs_le0F]
    exact K
theorem zx_foN {post : Int32 → SX → Prop} {s : Nat} (h8 : nd ≤ 8) (hn : wn < nd) (h4 : ln wn ≤ 4) (hs : s < 2) (h : wp = ln wn) (e : eg (wn * 2 + s) = none) (K : post (-1) (nI nd, nI bk, nI se, nI wy, nI st, nI wn, nI wp, hit, mis, zm_em rx, zm_em ln, zm_eo eg, zm_em so, zm_em rc, zm_em iu, zm_em il, zm_em cu, zm_em cl, zm_em li, zm_em fi)) : wpX_follow post (nI nd, nI bk, nI se, nI wy, nI st, nI wn, nI wp, hit, mis, zm_em rx, zm_em ln, zm_eo eg, zm_em so, zm_em rc, zm_em iu, zm_em il, zm_em cu, zm_em cl, zm_em li, zm_em fi) (nI s) := by
  unfold wpX_follow
  dsimp only
  refine zx_slotT hs (br_f (by decide) ?_)
  simp (disch := omega) only [e, forall_eq, zm_em_a, zm_eo_a, zm_eL_a, zm_oi_s, zm_oi_n, zm_em_u, zm_em_u0, zm_em_b0, zm_em_b1, zm_eo_u, zm_eo_un, zm_eL_u, zm_eL_u0, nI_clamp, nI_1, nI_add, zs_m2, zs_m4, zs_m5, zs_m8, zs_d2, zs_s1, zs_in, zs_leT, zs_leF, zs_ltT, zs_ltF, zs_eqT, zs_eqF, zs_m1e, zs_oe, zs_0lt, zs_e0T, zs_e0F, zs_2n, true_implies, forall_const, not_true_eq_false, not_false_eq_true, false_implies, and_true, true_and, implies_true, zs_l1T, zs_l1F, zs_l2T, zs_l2F, zs_l4T, zs_l4F, zs_l8T, zs_l8F, zs_l16T, zs_l16F, zs_l32T, zs_l32F, zs_l64T, zs_l64F, zs_l320T, zs_l320F, zs_l513T, zs_l513F, zs_l2561T, zs_l2561F, zs_t4T, zs_t4F, zs_e1T, zs_e1F, zs_nl0T, zs_nl0F, zs_nb, pk_rem, lN_1, zs_lleT, zs_lleF, zs_le0T, zs_le0F]
  exact K
theorem zx_foS {post : Int32 → SX → Prop} {s t : Nat} (h8 : nd ≤ 8) (hn : wn < nd) (h4 : ln wn ≤ 4) (hs : s < 2) (h : wp = ln wn) (e : eg (wn * 2 + s) = some t) (ht : t < nd) (K : post (nI t) (nI nd, nI bk, nI se, nI wy, nI st, nI t, nI 0, hit, mis, zm_em rx, zm_em ln, zm_eo eg, zm_em so, zm_em rc, zm_em iu, zm_em il, zm_em cu, zm_em cl, zm_em li, zm_em fi)) : wpX_follow post (nI nd, nI bk, nI se, nI wy, nI st, nI wn, nI wp, hit, mis, zm_em rx, zm_em ln, zm_eo eg, zm_em so, zm_em rc, zm_em iu, zm_em il, zm_em cu, zm_em cl, zm_em li, zm_em fi) (nI s) := by
  unfold wpX_follow
  dsimp only
  refine zx_slotT hs (br_f (by decide) ?_)
  simp (disch := omega) only [e, forall_eq, zm_em_a, zm_eo_a, zm_eL_a, zm_oi_s, zm_oi_n, zm_em_u, zm_em_u0, zm_em_b0, zm_em_b1, zm_eo_u, zm_eo_un, zm_eL_u, zm_eL_u0, nI_clamp, nI_1, nI_add, zs_m2, zs_m4, zs_m5, zs_m8, zs_d2, zs_s1, zs_in, zs_leT, zs_leF, zs_ltT, zs_ltF, zs_eqT, zs_eqF, zs_m1e, zs_oe, zs_0lt, zs_e0T, zs_e0F, zs_2n, true_implies, forall_const, not_true_eq_false, not_false_eq_true, false_implies, and_true, true_and, implies_true, zs_l1T, zs_l1F, zs_l2T, zs_l2F, zs_l4T, zs_l4F, zs_l8T, zs_l8F, zs_l16T, zs_l16F, zs_l32T, zs_l32F, zs_l64T, zs_l64F, zs_l320T, zs_l320F, zs_l513T, zs_l513F, zs_l2561T, zs_l2561F, zs_t4T, zs_t4F, zs_e1T, zs_e1F, zs_nl0T, zs_nl0F, zs_nb, pk_rem, lN_1, zs_lleT, zs_lleF, zs_le0T, zs_le0F]
  exact K
theorem zx_agF {post : Int32 → Prop} {v1 : Int32} (h8 : bk ≤ 8) (h : v1 < 0 ∨ nI bk ≤ v1) (K : post (-2)) : wpX_age post (nI nd, nI bk, nI se, nI wy, nI st, nI wn, nI wp, hit, mis, zm_em rx, zm_em ln, zm_eo eg, zm_em so, zm_em rc, zm_em iu, zm_em il, zm_em cu, zm_em cl, zm_em li, zm_em fi) v1 := by
  unfold wpX_age
  dsimp only
  exact zx_blockF h8 h (br_t rfl K)
theorem zx_agT {post : Int32 → Prop} {b a : Nat} (hw : wy ≤ 4) (hse : 1 ≤ se ∧ se ≤ 4) (hso : ∀ b, b < 8 → so b = b % se) (h8 : bk ≤ 8) (hb : b < bk) (hf : fi (b % se) ≤ wy) (hl : ∀ j, j < fi (b % se) → li (b % se * 4 + j) < 8)
    (h : (a < fi (b % se) ∧ li (b % se * 4 + a) = b ∧ ∀ j, j < fi (b % se) → j ≠ a → li (b % se * 4 + j) ≠ b) ∨ (a = wy ∧ ∀ j, j < fi (b % se) → li (b % se * 4 + j) ≠ b)) (K : post (nI a)) : wpX_age post (nI nd, nI bk, nI se, nI wy, nI st, nI wn, nI wp, hit, mis, zm_em rx, zm_em ln, zm_eo eg, zm_em so, zm_em rc, zm_em iu, zm_em il, zm_em cu, zm_em cl, zm_em li, zm_em fi) (nI b) := by
  unfold wpX_age
  dsimp only
  exact zx_blockT hb h8 (br_f (by decide) (zx_cAge hw hse hso (by omega) hf hl h K))
end
section
variable {nd bk se wy wn wp ck : Nat} {hit mis : Int32} {rr up lw lu : Nat → Nat} {ry eg : Nat → Option Nat}
variable {ln rx : Nat → Nat}
theorem zv_acN {post : Int32 → SY → Prop} (h8 : nd ≤ 8 ∧ bk ≤ 8) (G : zp_G nd bk ln rx eg) (hy : zv_ry nd ln rx ry) (hn : wn < nd) (h : wp = ln wn) (K : post (-1) (nI nd, nI bk, nI se, nI wy, nI wn, nI wp, hit, mis, lN ck, zm_eo ry, zm_eo eg, zm_em rr, zm_em up, zm_em lw, zm_eL lu)) : wpY_access post (nI nd, nI bk, nI se, nI wy, nI wn, nI wp, hit, mis, lN ck, zm_eo ry, zm_eo eg, zm_em rr, zm_em up, zm_em lw, zm_eL lu) := by
  have l4 := G.1 wn hn
  unfold wpY_access
  dsimp only
  refine zv_len h8 G hy hn (br_f (nI_nlt (by omega) (by omega)) K)
theorem zv_acT {post : Int32 → SY → Prop} {b a : Nat} (H : zp_H nd bk se wy ln rx eg) (hy : zv_ry nd ln rx ry) (hn : wn < nd) (h : wp < ln wn) (hb : rx (wn * 4 + wp) = b) (hbk : b < bk) (hl : ∀ c, c < bk → lu c < 2 ^ 31) (ha : a ≤ wy)
    (h1 : (a < wy ∧ lu b ≠ 0 ∧ zc_ct bk se lu b = a) ∨ (a = wy ∧ (lu b = 0 ∨ wy ≤ zc_ct bk se lu b)))
    (K0 : a = wy → post 0 (nI nd, nI bk, nI se, nI wy, nI wn, nI (wp + 1), hit, mis + 1, lN (ck + 1), zm_eo ry, zm_eo eg, zm_em rr, zm_em up, zm_em lw, zm_eL (zm_up lu b (ck + 1))))
    (K1 : a < wy → post 1 (nI nd, nI bk, nI se, nI wy, nI wn, nI (wp + 1), hit + 1, mis, lN (ck + 1), zm_eo ry, zm_eo eg, zm_em rr, zm_em up, zm_em lw, zm_eL (zm_up lu b (ck + 1)))) : wpY_access post (nI nd, nI bk, nI se, nI wy, nI wn, nI wp, hit, mis, lN ck, zm_eo ry, zm_eo eg, zm_em rr, zm_em up, zm_em lw, zm_eL lu) := by
  have h8 := H.1
  have b8 := H.2.1
  have hw := H.2.2.2.1
  have G := H.2.2.2.2
  have l4 := G.1 wn hn
  have e := hy wn hn wp (by omega)
  rw [if_pos h, hb] at e
  unfold wpY_access
  dsimp only
  refine zv_len ⟨h8.2, b8.2⟩ G hy hn ?_
  simp (disch := omega) only [e, forall_eq, zm_em_a, zm_eo_a, zm_eL_a, zm_oi_s, zm_oi_n, zm_em_u, zm_em_u0, zm_em_b0, zm_em_b1, zm_eo_u, zm_eo_un, zm_eL_u, zm_eL_u0, nI_clamp, nI_1, nI_add, zs_m2, zs_m4, zs_m5, zs_m8, zs_d2, zs_s1, zs_in, zs_leT, zs_leF, zs_ltT, zs_ltF, zs_eqT, zs_eqF, zs_m1e, zs_oe, zs_0lt, zs_e0T, zs_e0F, zs_2n, true_implies, forall_const, not_true_eq_false, not_false_eq_true, false_implies, and_true, true_and, implies_true, zs_l1T, zs_l1F, zs_l2T, zs_l2F, zs_l4T, zs_l4F, zs_l8T, zs_l8F, zs_l16T, zs_l16F, zs_l32T, zs_l32F, zs_l64T, zs_l64F, zs_l320T, zs_l320F, zs_l513T, zs_l513F, zs_l2561T, zs_l2561F, zs_t4T, zs_t4F, zs_e1T, zs_e1F, zs_nl0T, zs_nl0F, zs_nb, pk_rem, lN_1, zs_lleT, zs_lleF, zs_le0T, zs_le0F]
  refine zv_age b8.2 hw.2 H.2.2.1 hbk hl h1 ?_
  rcases Nat.lt_or_ge a wy with q | q
  · refine br_f (nI_ge q (by omega)) ?_
    simp (disch := omega) only [wY_access_51, forall_eq, zm_em_a, zm_eo_a, zm_eL_a, zm_oi_s, zm_oi_n, zm_em_u, zm_em_u0, zm_em_b0, zm_em_b1, zm_eo_u, zm_eo_un, zm_eL_u, zm_eL_u0, nI_clamp, nI_1, nI_add, zs_m2, zs_m4, zs_m5, zs_m8, zs_d2, zs_s1, zs_in, zs_leT, zs_leF, zs_ltT, zs_ltF, zs_eqT, zs_eqF, zs_m1e, zs_oe, zs_0lt, zs_e0T, zs_e0F, zs_2n, true_implies, forall_const, not_true_eq_false, not_false_eq_true, false_implies, and_true, true_and, implies_true, zs_l1T, zs_l1F, zs_l2T, zs_l2F, zs_l4T, zs_l4F, zs_l8T, zs_l8F, zs_l16T, zs_l16F, zs_l32T, zs_l32F, zs_l64T, zs_l64F, zs_l320T, zs_l320F, zs_l513T, zs_l513F, zs_l2561T, zs_l2561F, zs_t4T, zs_t4F, zs_e1T, zs_e1F, zs_nl0T, zs_nl0F, zs_nb, pk_rem, lN_1, zs_lleT, zs_lleF, zs_le0T, zs_le0F]
    exact br_f (by decide) (K1 q)
  · refine br_t (nI_le q (by omega)) ?_
    simp (disch := omega) only [wY_access_51, forall_eq, zm_em_a, zm_eo_a, zm_eL_a, zm_oi_s, zm_oi_n, zm_em_u, zm_em_u0, zm_em_b0, zm_em_b1, zm_eo_u, zm_eo_un, zm_eL_u, zm_eL_u0, nI_clamp, nI_1, nI_add, zs_m2, zs_m4, zs_m5, zs_m8, zs_d2, zs_s1, zs_in, zs_leT, zs_leF, zs_ltT, zs_ltF, zs_eqT, zs_eqF, zs_m1e, zs_oe, zs_0lt, zs_e0T, zs_e0F, zs_2n, true_implies, forall_const, not_true_eq_false, not_false_eq_true, false_implies, and_true, true_and, implies_true, zs_l1T, zs_l1F, zs_l2T, zs_l2F, zs_l4T, zs_l4F, zs_l8T, zs_l8F, zs_l16T, zs_l16F, zs_l32T, zs_l32F, zs_l64T, zs_l64F, zs_l320T, zs_l320F, zs_l513T, zs_l513F, zs_l2561T, zs_l2561F, zs_t4T, zs_t4F, zs_e1T, zs_e1F, zs_nl0T, zs_nl0F, zs_nb, pk_rem, lN_1, zs_lleT, zs_lleF, zs_le0T, zs_le0F]
    exact K0 (by omega)
theorem zv_foF {post : Int32 → SY → Prop} {v1 : Int32} (h8 : nd ≤ 8 ∧ bk ≤ 8) (G : zp_G nd bk ln rx eg) (hy : zv_ry nd ln rx ry) (hn : wn < nd) (h : (v1 < 0 ∨ nI 2 ≤ v1) ∨ ∃ s, s < 2 ∧ v1 = nI s ∧ wp < ln wn) (K : post (-2) (nI nd, nI bk, nI se, nI wy, nI wn, nI wp, hit, mis, lN ck, zm_eo ry, zm_eo eg, zm_em rr, zm_em up, zm_em lw, zm_eL lu)) : wpY_follow post (nI nd, nI bk, nI se, nI wy, nI wn, nI wp, hit, mis, lN ck, zm_eo ry, zm_eo eg, zm_em rr, zm_em up, zm_em lw, zm_eL lu) v1 := by
  have l4 := G.1 wn hn
  unfold wpY_follow
  dsimp only
  rcases h with (h | h) | ⟨s, hs, rfl, h⟩
  · exact br_t h K
  · exact br_f (zs_hi (by decide) h) (br_t (zs_hi2 h).1 K)
  · have hs1 : ¬ (1 : Int32) < nI s := nI_nlt (a := 1) (b := s) (by omega) (by decide)
    exact br_f (nI_pos (by omega)) (br_f hs1 (zv_len h8 G hy hn (br_f (nI_ge h (by omega)) K)))
theorem zv_foN {post : Int32 → SY → Prop} {s : Nat} (h8 : nd ≤ 8 ∧ bk ≤ 8) (G : zp_G nd bk ln rx eg) (hy : zv_ry nd ln rx ry) (hn : wn < nd) (hs : s < 2) (h : wp = ln wn) (e : eg (wn * 2 + s) = none) (K : post (-1) (nI nd, nI bk, nI se, nI wy, nI wn, nI wp, hit, mis, lN ck, zm_eo ry, zm_eo eg, zm_em rr, zm_em up, zm_em lw, zm_eL lu)) : wpY_follow post (nI nd, nI bk, nI se, nI wy, nI wn, nI wp, hit, mis, lN ck, zm_eo ry, zm_eo eg, zm_em rr, zm_em up, zm_em lw, zm_eL lu) (nI s) := by
  have l4 := G.1 wn hn
  have hs1 : ¬ (1 : Int32) < nI s := nI_nlt (a := 1) (b := s) (by omega) (by decide)
  unfold wpY_follow
  dsimp only
  refine br_f (nI_pos (by omega)) (br_f hs1 (zv_len h8 G hy hn ?_))
  simp (disch := omega) only [e, forall_eq, zm_em_a, zm_eo_a, zm_eL_a, zm_oi_s, zm_oi_n, zm_em_u, zm_em_u0, zm_em_b0, zm_em_b1, zm_eo_u, zm_eo_un, zm_eL_u, zm_eL_u0, nI_clamp, nI_1, nI_add, zs_m2, zs_m4, zs_m5, zs_m8, zs_d2, zs_s1, zs_in, zs_leT, zs_leF, zs_ltT, zs_ltF, zs_eqT, zs_eqF, zs_m1e, zs_oe, zs_0lt, zs_e0T, zs_e0F, zs_2n, true_implies, forall_const, not_true_eq_false, not_false_eq_true, false_implies, and_true, true_and, implies_true, zs_l1T, zs_l1F, zs_l2T, zs_l2F, zs_l4T, zs_l4F, zs_l8T, zs_l8F, zs_l16T, zs_l16F, zs_l32T, zs_l32F, zs_l64T, zs_l64F, zs_l320T, zs_l320F, zs_l513T, zs_l513F, zs_l2561T, zs_l2561F, zs_t4T, zs_t4F, zs_e1T, zs_e1F, zs_nl0T, zs_nl0F, zs_nb, pk_rem, lN_1, zs_lleT, zs_lleF, zs_le0T, zs_le0F]
  exact K
theorem zv_foS {post : Int32 → SY → Prop} {s t : Nat} (h8 : nd ≤ 8 ∧ bk ≤ 8) (G : zp_G nd bk ln rx eg) (hy : zv_ry nd ln rx ry) (hn : wn < nd) (hs : s < 2) (h : wp = ln wn) (e : eg (wn * 2 + s) = some t) (ht : t < nd) (K : post (nI t) (nI nd, nI bk, nI se, nI wy, nI t, nI 0, hit, mis, lN ck, zm_eo ry, zm_eo eg, zm_em rr, zm_em up, zm_em lw, zm_eL lu)) : wpY_follow post (nI nd, nI bk, nI se, nI wy, nI wn, nI wp, hit, mis, lN ck, zm_eo ry, zm_eo eg, zm_em rr, zm_em up, zm_em lw, zm_eL lu) (nI s) := by
  have l4 := G.1 wn hn
  have hs1 : ¬ (1 : Int32) < nI s := nI_nlt (a := 1) (b := s) (by omega) (by decide)
  unfold wpY_follow
  dsimp only
  refine br_f (nI_pos (by omega)) (br_f hs1 (zv_len h8 G hy hn ?_))
  simp (disch := omega) only [e, forall_eq, zm_em_a, zm_eo_a, zm_eL_a, zm_oi_s, zm_oi_n, zm_em_u, zm_em_u0, zm_em_b0, zm_em_b1, zm_eo_u, zm_eo_un, zm_eL_u, zm_eL_u0, nI_clamp, nI_1, nI_add, zs_m2, zs_m4, zs_m5, zs_m8, zs_d2, zs_s1, zs_in, zs_leT, zs_leF, zs_ltT, zs_ltF, zs_eqT, zs_eqF, zs_m1e, zs_oe, zs_0lt, zs_e0T, zs_e0F, zs_2n, true_implies, forall_const, not_true_eq_false, not_false_eq_true, false_implies, and_true, true_and, implies_true, zs_l1T, zs_l1F, zs_l2T, zs_l2F, zs_l4T, zs_l4F, zs_l8T, zs_l8F, zs_l16T, zs_l16F, zs_l32T, zs_l32F, zs_l64T, zs_l64F, zs_l320T, zs_l320F, zs_l513T, zs_l513F, zs_l2561T, zs_l2561F, zs_t4T, zs_t4F, zs_e1T, zs_e1F, zs_nl0T, zs_nl0F, zs_nb, pk_rem, lN_1, zs_lleT, zs_lleF, zs_le0T, zs_le0F]
  exact K
theorem zv_agF {post : Int32 → Prop} {v1 : Int32} (h8 : bk ≤ 8) (h : v1 < 0 ∨ nI bk ≤ v1) (K : post (-2)) : wpY_age post (nI nd, nI bk, nI se, nI wy, nI wn, nI wp, hit, mis, lN ck, zm_eo ry, zm_eo eg, zm_em rr, zm_em up, zm_em lw, zm_eL lu) v1 := by
  rcases h with h | h
  · exact br_t h K
  · exact br_f (zs_hi (by omega) h) (br_f (zs_nlt h) K)
end
theorem i_vc_restart {k : Nat} {u : SX} {v : SY} (I : i_Rel k u v) (hk : k + 4 ≤ 2052) : wpX_restart (fun u' => wpY_restart (fun v' => i_Rel (k + 4) u' v') v) u := by
  refine zi_el (P := fun u v => wpX_restart (fun u' => wpY_restart (fun v' => i_Rel (k + 4) u' v') v) u) I ?_
  intro nd bk se wy st wn wp ck hit mis rx ln eg so rc iu il cu cl li fi ry rr up lw lu hF
  obtain ⟨H, hso, hy, hst, A, hwn, hwp, C, hck⟩ := hF
  have hFs : zi_F (k + 4) nd bk se wy st wn wp ck rx ln eg so rc iu il li fi ry lu := ⟨H, hso, hy, hst, A, hwn, hwp, C, by omega⟩
  have h8 := H.1
  have b8 := H.2.1
  have G := H.2.2.2.2
  exact zx_restart (fun f hf => zv_restart (fun l hl => zi_in ⟨H, hso, hy, hst, A, h8.1, Nat.zero_le _, zc_0 hf hl H.2.2.1.2 b8.2, Nat.zero_le _⟩))
theorem i_vc_access {k : Nat} {u : SX} {v : SY} (I : i_Rel k u v) (hk : k + 4 ≤ 2052) : wpX_access (fun r u' => wpY_access (fun r' v' => r' = r ∧ i_Rel (k + 4) u' v') v) u := by
  refine zi_el (P := fun u v => wpX_access (fun r u' => wpY_access (fun r' v' => r' = r ∧ i_Rel (k + 4) u' v') v) u) I ?_
  intro nd bk se wy st wn wp ck hit mis rx ln eg so rc iu il cu cl li fi ry rr up lw lu hF
  obtain ⟨H, hso, hy, hst, A, hwn, hwp, C, hck⟩ := hF
  have hFs : zi_F (k + 4) nd bk se wy st wn wp ck rx ln eg so rc iu il li fi ry lu := ⟨H, hso, hy, hst, A, hwn, hwp, C, by omega⟩
  have h8 := H.1
  have b8 := H.2.1
  have G := H.2.2.2.2
  have hw := H.2.2.2.1
  have hse := H.2.2.1
  rcases Nat.lt_or_ge wp (ln wn) with h | h
  · have hb := G.2.1 wn hwn wp h
    obtain ⟨a, hole, f', ha, c1, c2, c3, d1, d2, d3, d4⟩ := zi_acc hw hse.1 C hb
    have hs : rx (wn * 4 + wp) % se < se := Nat.mod_lt _ (by omega)
    have hf := C.1 _ hs
    have hl : ∀ j, j < fi (rx (wn * 4 + wp) % se) → li (rx (wn * 4 + wp) % se * 4 + j) < 8 := fun j hj => Nat.lt_of_lt_of_le (C.2.1 _ hs j hj).1 b8.2
    have hlu : ∀ c, c < bk → lu c < 2 ^ 31 := fun c hc => by have := C.2.2.2.2 c hc; omega
    have key : ∀ l f : Nat → Nat, (∀ j, l j = zc_mv li (rx (wn * 4 + wp) % se * 4) hole (rx (wn * 4 + wp)) j) → (∀ s, f s = if s = rx (wn * 4 + wp) % se then f' else fi s) → zi_F (k + 4) nd bk se wy st wn (wp + 1) (ck + 1) rx ln eg so rc iu il l f ry (zm_up lu (rx (wn * 4 + wp)) (ck + 1)) :=
      fun l f hl hf => ⟨H, hso, hy, hst, A, hwn, h, zc_move hw.2 hse.1 C hb d1 d2 d3 d4 hl hf (fun c => rfl), by omega⟩
    refine zx_acT H hso hwn h rfl hb hf hl ha c1 c3 (fun q l f hl hf => ?_) (fun q l f hl hf => ?_)
    · exact zv_acT H hy hwn h rfl hb hlu ha c2 (fun _ => ⟨rfl, zi_in (key l f hl hf)⟩) (fun q' => absurd q' (by omega))
    · exact zv_acT H hy hwn h rfl hb hlu ha c2 (fun q' => absurd q' (by omega)) (fun _ => ⟨rfl, zi_in (key l f hl hf)⟩)
  · have e : wp = ln wn := by omega
    exact zx_acN h8.2 hwn (G.1 wn hwn) e (zv_acN ⟨h8.2, b8.2⟩ G hy hwn e ⟨rfl, zi_in hFs⟩)
theorem i_vc_follow {k : Nat} {u : SX} {v : SY} (I : i_Rel k u v) (hk : k + 4 ≤ 2052) (v1 : Int32) : wpX_follow (fun r u' => wpY_follow (fun r' v' => r' = r ∧ i_Rel (k + 4) u' v') v v1) u v1 := by
  refine zi_el (P := fun u v => wpX_follow (fun r u' => wpY_follow (fun r' v' => r' = r ∧ i_Rel (k + 4) u' v') v v1) u v1) I ?_
  intro nd bk se wy st wn wp ck hit mis rx ln eg so rc iu il cu cl li fi ry rr up lw lu hF
  obtain ⟨H, hso, hy, hst, A, hwn, hwp, C, hck⟩ := hF
  have hFs : zi_F (k + 4) nd bk se wy st wn wp ck rx ln eg so rc iu il li fi ry lu := ⟨H, hso, hy, hst, A, hwn, hwp, C, by omega⟩
  have h8 := H.1
  have b8 := H.2.1
  have G := H.2.2.2.2
  have l4 := G.1 wn hwn
  by_cases hb : (v1 < 0 ∨ nI 2 ≤ v1) ∨ ∃ s, s < 2 ∧ v1 = nI s ∧ wp < ln wn
  · exact zx_foF h8.2 hwn l4 hb (zv_foF ⟨h8.2, b8.2⟩ G hy hwn hb ⟨rfl, zi_in hFs⟩)
  rcases pk_ix v1 (n := 2) (by omega) with h | h | ⟨s, hs, rfl⟩
  · exact absurd (Or.inl (Or.inl h)) hb
  · exact absurd (Or.inl (Or.inr h)) hb
  have e : wp = ln wn := Decidable.byContradiction fun z => hb (Or.inr ⟨s, hs, rfl, by omega⟩)
  rcases et : eg (wn * 2 + s) with _ | t
  · exact zx_foN h8.2 hwn l4 hs e et (zv_foN ⟨h8.2, b8.2⟩ G hy hwn hs e et ⟨rfl, zi_in hFs⟩)
  · have ht : t < nd := G.2.2 wn hwn s hs t et
    exact zx_foS h8.2 hwn l4 hs e et ht (zv_foS ⟨h8.2, b8.2⟩ G hy hwn hs e et ht ⟨rfl, zi_in ⟨H, hso, hy, hst, A, ht, Nat.zero_le _, C, by omega⟩⟩)
theorem i_vc_age {k : Nat} {u : SX} {v : SY} (I : i_Rel k u v) (hk : k + 4 ≤ 2052) (v1 : Int32) : wpX_age (fun r => wpY_age (fun r' => r' = r ∧ i_Rel (k + 4) u v) v v1) u v1 := by
  refine zi_el (P := fun u v => wpX_age (fun r => wpY_age (fun r' => r' = r ∧ i_Rel (k + 4) u v) v v1) u v1) I ?_
  intro nd bk se wy st wn wp ck hit mis rx ln eg so rc iu il cu cl li fi ry rr up lw lu hF
  obtain ⟨H, hso, hy, hst, A, hwn, hwp, C, hck⟩ := hF
  have hFs : zi_F (k + 4) nd bk se wy st wn wp ck rx ln eg so rc iu il li fi ry lu := ⟨H, hso, hy, hst, A, hwn, hwp, C, by omega⟩
  have h8 := H.1
  have b8 := H.2.1
  have G := H.2.2.2.2
  have hw := H.2.2.2.1
  have hse := H.2.2.1
  by_cases hb : v1 < 0 ∨ nI bk ≤ v1
  · exact zx_agF b8.2 hb (zv_agF b8.2 hb ⟨rfl, zi_in hFs⟩)
  rcases pk_ix v1 (n := bk) (by omega) with h | h | ⟨b, hb', rfl⟩
  · exact absurd (Or.inl h) hb
  · exact absurd (Or.inr h) hb
  obtain ⟨a, hole, f', ha, c1, c2, -⟩ := zi_acc hw hse.1 C hb'
  have hs : b % se < se := Nat.mod_lt _ (by omega)
  exact zx_agT hw.2 hse hso b8.2 hb' (C.1 _ hs) (fun j hj => Nat.lt_of_lt_of_le (C.2.1 _ hs j hj).1 b8.2) c1 (zv_age b8.2 hw.2 hse hb' (fun c hc => by have := C.2.2.2.2 c hc; omega) c2 ⟨rfl, zi_in hFs⟩)
theorem i_vc_where {k : Nat} {u : SX} {v : SY} (I : i_Rel k u v) (hk : k + 4 ≤ 2052) : wpX_where (fun r => wpY_where (fun r' => r' = r ∧ i_Rel (k + 4) u v) v) u := by
  refine zi_el (P := fun u v => wpX_where (fun r => wpY_where (fun r' => r' = r ∧ i_Rel (k + 4) u v) v) u) I ?_
  intro nd bk se wy st wn wp ck hit mis rx ln eg so rc iu il cu cl li fi ry rr up lw lu hF
  obtain ⟨H, hso, hy, hst, A, hwn, hwp, C, hck⟩ := hF
  have hFs : zi_F (k + 4) nd bk se wy st wn wp ck rx ln eg so rc iu il li fi ry lu := ⟨H, hso, hy, hst, A, hwn, hwp, C, by omega⟩
  have h8 := H.1
  have b8 := H.2.1
  have G := H.2.2.2.2
  exact ⟨rfl, zi_in hFs⟩
theorem i_vc_hits {k : Nat} {u : SX} {v : SY} (I : i_Rel k u v) (hk : k + 4 ≤ 2052) : wpX_hits (fun r => wpY_hits (fun r' => r' = r ∧ i_Rel (k + 4) u v) v) u := by
  refine zi_el (P := fun u v => wpX_hits (fun r => wpY_hits (fun r' => r' = r ∧ i_Rel (k + 4) u v) v) u) I ?_
  intro nd bk se wy st wn wp ck hit mis rx ln eg so rc iu il cu cl li fi ry rr up lw lu hF
  obtain ⟨H, hso, hy, hst, A, hwn, hwp, C, hck⟩ := hF
  have hFs : zi_F (k + 4) nd bk se wy st wn wp ck rx ln eg so rc iu il li fi ry lu := ⟨H, hso, hy, hst, A, hwn, hwp, C, by omega⟩
  have h8 := H.1
  have b8 := H.2.1
  have G := H.2.2.2.2
  exact ⟨rfl, zi_in hFs⟩
theorem i_vc_misses {k : Nat} {u : SX} {v : SY} (I : i_Rel k u v) (hk : k + 4 ≤ 2052) : wpX_misses (fun r => wpY_misses (fun r' => r' = r ∧ i_Rel (k + 4) u v) v) u := by
  refine zi_el (P := fun u v => wpX_misses (fun r => wpY_misses (fun r' => r' = r ∧ i_Rel (k + 4) u v) v) u) I ?_
  intro nd bk se wy st wn wp ck hit mis rx ln eg so rc iu il cu cl li fi ry rr up lw lu hF
  obtain ⟨H, hso, hy, hst, A, hwn, hwp, C, hck⟩ := hF
  have hFs : zi_F (k + 4) nd bk se wy st wn wp ck rx ln eg so rc iu il li fi ry lu := ⟨H, hso, hy, hst, A, hwn, hwp, C, by omega⟩
  have h8 := H.1
  have b8 := H.2.1
  have G := H.2.2.2.2
  exact ⟨rfl, zi_in hFs⟩
end
