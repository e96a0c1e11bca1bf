section
/-! pure rows to paste: stores, nI and lN arithmetic, masks, shifts, narrowing, branches by naturals (pk_le, pk_lt, pk_eq), loops (lp1 .. lp16: the measure of the state; rp1 ..: recursion), negatives. Take what you need -/
theorem pk_us {f : Nat → Int32} {k : Nat} {x : Int32} : upd f k x k = x := if_pos rfl
theorem pk_un {f : Nat → Int32} {k j : Nat} {x : Int32} (h : j ≠ k) : upd f k x j = f j := if_neg h
theorem pk_uLs {f : Nat → Int64} {k : Nat} {x : Int64} : vp_updL f k x k = x := if_pos rfl
theorem pk_uLn {f : Nat → Int64} {k j : Nat} {x : Int64} (h : j ≠ k) : vp_updL f k x j = f j := if_neg h
theorem pk_sub {a b : Nat} (h : b ≤ a) : nI a - nI b = nI (a - b) := by
  obtain ⟨c, rfl⟩ : ∃ c, a = c + b := ⟨a - b, by omega⟩
  rw [← nI_add, Int32.add_sub_cancel, Nat.add_sub_cancel]
theorem pk_m1 (n : Nat) : nI (n + 1) + (-1) = nI n := by
  rw [← nI_1, Int32.add_assoc, show (1 : Int32) + (-1) = 0 from rfl, Int32.add_zero]
theorem pk_mul (a b : Nat) : nI a * nI b = nI (a * b) := (Int32.ofNat_mul a b).symm
theorem pk_div {a d : Nat} (ha : a < 2 ^ 31) (h0 : 0 < d) (hd : d < 2 ^ 31) : nI a / nI d = nI (a / d) := by
  apply Int32.toInt_inj.mp
  rw [lg_idiv_nonneg (by rw [nI_toInt ha]; omega) (by rw [nI_toInt hd]; omega), nI_toInt ha, nI_toInt hd, nI_toInt (Nat.lt_of_le_of_lt (Nat.div_le_self a d) ha)]
  first | rfl | exact (Int.natCast_ediv _ _).symm
theorem pk_rem {a d : Nat} (ha : a < 2 ^ 31) (h0 : 0 < d) (hd : d < 2 ^ 31) : nI a - nI a / nI d * nI d = nI (a % d) := by
  rw [pk_div ha h0 hd, pk_mul, pk_sub (Nat.div_mul_le_self a d)]
  exact congrArg nI (by have := Nat.div_add_mod' a d; omega)
theorem pk_sub_toInt {a b : Nat} (ha : a < 2 ^ 30) (hb : b < 2 ^ 30) : (nI a - nI b).toInt = (a : Int) - b := by
  rw [Int32.toInt_sub, nI_toInt (by omega), nI_toInt (by omega)]
  exact Int.bmod_eq_of_le (by omega) (by omega)
theorem pk_sneg {a b : Nat} (hb : b < 2 ^ 30) (h : a < b) : nI a - nI b < 0 := by
  rw [Int32.lt_iff_toInt_lt, pk_sub_toInt (by omega) hb, show (0 : Int32).toInt = 0 from by decide]
  omega
theorem pk_ix (x : Int32) {n : Nat} (hn : n < 2 ^ 31) : x < 0 ∨ nI n ≤ x ∨ ∃ j : Nat, j < n ∧ x = nI j := by
  by_cases h : x < 0
  · exact Or.inl h
  · obtain ⟨j, hj, rfl⟩ := nI_of h
    by_cases h2 : j < n
    · exact Or.inr (Or.inr ⟨j, h2, rfl⟩)
    · exact Or.inr (Or.inl (nI_le (by omega) hj))
theorem pk_le {x y : Int32} {A B : Prop} (a b : Nat) (f : a ≤ b → A) (g : b < a → B) (hx : x = nI a := by rfl) (hy : y = nI b := by rfl) (ha : a < 2 ^ 31 := by omega) (hb : b < 2 ^ 31 := by omega) : (x ≤ y → A) ∧ (¬ x ≤ y → B) := by
  subst hx hy
  rw [nI_leI ha hb]
  exact ⟨f, fun z => g (by omega)⟩
theorem pk_lt {x y : Int32} {A B : Prop} (a b : Nat) (f : a < b → A) (g : b ≤ a → B) (hx : x = nI a := by rfl) (hy : y = nI b := by rfl) (ha : a < 2 ^ 31 := by omega) (hb : b < 2 ^ 31 := by omega) : (x < y → A) ∧ (¬ x < y → B) := by
  subst hx hy
  rw [nI_ltI ha hb]
  exact ⟨f, fun z => g (by omega)⟩
theorem pk_eq {x y : Int32} {A B : Prop} (a b : Nat) (f : a = b → A) (g : a ≠ b → B) (hx : x = nI a := by rfl) (hy : y = nI b := by rfl) (ha : a < 2 ^ 31 := by omega) (hb : b < 2 ^ 31 := by omega) : (x = y → A) ∧ (¬ x = y → B) := by
  subst hx hy
  rw [nI_eq ha hb]
  exact ⟨f, g⟩
theorem pk_in {x : Int32} (n N : Nat) (h : n < N) (hx : x = nI n := by rfl) (hN : N < 2 ^ 31 := by omega) : vp_in x N := by
  subst hx
  exact vp_in_nI h hN
theorem pk_cl {x : Int32} (n : Nat) (hx : x = nI n := by rfl) (h : n < 2 ^ 31 := by omega) : x.toNatClampNeg = n := by
  subst hx
  exact nI_clamp h
theorem pk_tn {n : Nat} (h : n < 2 ^ 32) : (nI n).toBitVec.toNat = n := Nat.mod_eq_of_lt h
theorem pk_and (x : Int32) {m : Int32} (k : Nat) (hm : m.toBitVec.toNat = 2 ^ k - 1) : x &&& m = nI (x.toBitVec.toNat % 2 ^ k) := by
  apply Int32.toBitVec_inj.mp
  apply BitVec.eq_of_toNat_eq
  rw [Int32.toBitVec_and, BitVec.toNat_and, hm, Nat.and_two_pow_sub_one_eq_mod]
  show _ = (BitVec.ofNat 32 _).toNat
  rw [BitVec.toNat_ofNat]
  exact (Nat.mod_eq_of_lt (Nat.lt_of_le_of_lt (Nat.mod_le _ _) x.toBitVec.isLt)).symm
theorem pk_andN {n : Nat} (h : n < 2 ^ 32) {m : Int32} (k : Nat) (hm : m.toBitVec.toNat = 2 ^ k - 1) : nI n &&& m = nI (n % 2 ^ k) := by
  rw [pk_and _ k hm, pk_tn h]
theorem pk_andE (x : Int32) {m : Int32} (k : Nat) (hm : m.toBitVec.toNat = 2 ^ k - 1) : ∃ j : Nat, j < 2 ^ k ∧ x &&& m = nI j := ⟨_, Nat.mod_lt _ (Nat.two_pow_pos k), pk_and x k hm⟩
theorem pk_andIn (x : Int32) {m : Int32} (k : Nat) (hm : m.toBitVec.toNat = 2 ^ k - 1) (hk : k ≤ 30) : vp_in (x &&& m) (2 ^ k) := by
  obtain ⟨j, hj, e⟩ := pk_andE x k hm
  rw [e]
  exact vp_in_nI hj (Nat.lt_of_le_of_lt (Nat.pow_le_pow_right (by decide) hk) (by decide))
theorem pk_shl (a s : Int32) (k : Nat) (hs : (s.toBitVec.smod 32).toNat = k) : (a <<< s).toBitVec.toNat = a.toBitVec.toNat * 2 ^ k % 2 ^ 32 := by
  show (a.toBitVec <<< (s.toBitVec.smod 32).toNat).toNat = _
  rw [hs, BitVec.toNat_shiftLeft, Nat.shiftLeft_eq]
theorem pk_shlN {n : Nat} (s : Int32) (k : Nat) (hs : (s.toBitVec.smod 32).toNat = k) (h : n * 2 ^ k < 2 ^ 32) : nI n <<< s = nI (n * 2 ^ k) := by
  apply Int32.toBitVec_inj.mp
  apply BitVec.eq_of_toNat_eq
  have hn : n < 2 ^ 32 := Nat.lt_of_le_of_lt (Nat.le_mul_of_pos_right n (Nat.two_pow_pos k)) h
  rw [pk_shl _ _ k hs, pk_tn hn, pk_tn h, Nat.mod_eq_of_lt h]
theorem pk_shr (a s : Int32) (k : Nat) (hs : (s.toBitVec.smod 32).toNat = k) : (a >>> s).toInt = a.toInt >>> k := by
  show (a.toBitVec.sshiftRight (s.toBitVec.smod 32).toNat).toInt = _
  rw [hs, BitVec.toInt_sshiftRight]
  rfl
theorem pk_shrN {n : Nat} (h : n < 2 ^ 31) (s : Int32) (k : Nat) (hs : (s.toBitVec.smod 32).toNat = k) : nI n >>> s = nI (n / 2 ^ k) := by
  apply Int32.toInt_inj.mp
  have h2 : n / 2 ^ k ≤ n := Nat.div_le_self _ _
  rw [pk_shr _ _ k hs, nI_toInt h, nI_toInt (by omega), Int.shiftRight_eq_div_pow]
  rfl
theorem pk_ushr (x s : Int32) (k : Nat) (hs : ((s.toUInt32 &&& Int32.toUInt32 31).toBitVec % 32).toNat = k) : (x.toUInt32 >>> (s.toUInt32 &&& Int32.toUInt32 31)).toInt32.toBitVec.toNat = x.toBitVec.toNat / 2 ^ k := by
  have e : (x.toUInt32 >>> (s.toUInt32 &&& Int32.toUInt32 31)).toInt32.toBitVec = x.toBitVec >>> k := by
    rw [← hs]
    exact UInt32.toBitVec_shiftRight _ _
  rw [e, BitVec.toNat_ushiftRight, Nat.shiftRight_eq_div_pow]
theorem pk_ushrN {n : Nat} (hn : n < 2 ^ 32) (s : Int32) (k : Nat) (hs : ((s.toUInt32 &&& Int32.toUInt32 31).toBitVec % 32).toNat = k) : ((nI n).toUInt32 >>> (s.toUInt32 &&& Int32.toUInt32 31)).toInt32 = nI (n / 2 ^ k) := by
  apply Int32.toBitVec_inj.mp
  apply BitVec.eq_of_toNat_eq
  rw [pk_ushr _ s k hs, pk_tn hn, pk_tn (Nat.lt_of_le_of_lt (Nat.div_le_self _ _) hn)]
theorem pk_nb (z : Int32) : narrow .byte (.int z.toInt8.toInt32) = .int z.toInt8.toInt32 := congrArg Value.int (by simp)
theorem pk_ns (z : Int32) : narrow .short (.int z.toInt16.toInt32) = .int z.toInt16.toInt32 := congrArg Value.int (by simp)
theorem pk_fb (r : Int32) : fits .byte (.int r.toInt8.toInt32) = true := by
  have ⟨a, b⟩ := lg_i2b_range r
  have h1 : (-128 : Int32).toInt = -128 := by decide
  have h2 : (127 : Int32).toInt = 127 := by decide
  simp only [fits, Bool.and_eq_true, decide_eq_true_eq, Int32.le_iff_toInt_le, h1, h2]
  omega
theorem pk_fs (r : Int32) : fits .short (.int r.toInt16.toInt32) = true := by
  have ⟨a, b⟩ := lg_i2s_range r
  have h1 : (-32768 : Int32).toInt = -32768 := by decide
  have h2 : (32767 : Int32).toInt = 32767 := by decide
  simp only [fits, Bool.and_eq_true, decide_eq_true_eq, Int32.le_iff_toInt_le, h1, h2]
  omega
theorem pk_charN {q : Nat} (hq : q < 65536) : narrow .char (.int (nI q)) = .int (nI q) ∧ fits .char (.int (nI q)) = true := by
  constructor
  · have e : (nI q).toUInt32.toUInt16.toUInt32.toInt32 = nI q := by
      apply Int32.toBitVec_inj.mp
      apply BitVec.eq_of_toNat_eq
      show (nI q).toUInt32.toUInt16.toUInt32.toNat = q % 2 ^ 32
      rw [UInt16.toNat_toUInt32, UInt32.toNat_toUInt16, show (nI q).toUInt32.toNat = q % 2 ^ 32 from rfl]
      omega
    exact congrArg Value.int e
  · have a : (0 : Int32) ≤ nI q := nI_pos' (by omega)
    have b : nI q ≤ 65535 := nI_le (b := 65535) (by omega) (by decide)
    show (decide ((0 : Int32) ≤ nI q) && decide (nI q ≤ 65535)) = true
    rw [decide_eq_true a, decide_eq_true b]
    rfl
theorem pk_char (x : Int32) : (x.toUInt32 % 65536).toInt32 = nI (x.toBitVec.toNat % 65536) := by
  apply Int32.toBitVec_inj.mp
  apply BitVec.eq_of_toNat_eq
  rw [pk_tn (by omega)]
  show (x.toUInt32 % 65536).toNat = _
  rw [UInt32.toNat_mod]
  rfl
theorem pk_nc (x : Int32) : narrow .char (.int (x.toUInt32 % 65536).toInt32) = .int (x.toUInt32 % 65536).toInt32 := by
  rw [pk_char]
  exact (pk_charN (Nat.mod_lt _ (by decide))).1
theorem pk_fc (x : Int32) : fits .char (.int (x.toUInt32 % 65536).toInt32) = true := by
  rw [pk_char]
  exact (pk_charN (Nat.mod_lt _ (by decide))).2
theorem pk_vb (z : Int32) : vp_nar .byte z.toInt8.toInt32 = z.toInt8.toInt32 := by rw [vp_nar_byte]; simp
theorem pk_vs (z : Int32) : vp_nar .short z.toInt16.toInt32 = z.toInt16.toInt32 := by rw [vp_nar_short]; simp
theorem pk_vc (z : Int32) : vp_nar .char (z.toUInt32 % 65536).toInt32 = (z.toUInt32 % 65536).toInt32 := Value.int.inj (pk_nc z)
theorem pk_lT {n : Nat} (h : n < 2 ^ 63) : (lN n).toInt = (n : Int) := lg_ofNat_toInt h
theorem pk_lLT {a b : Nat} (ha : a < 2 ^ 63) (hb : b < 2 ^ 63) : lN a < lN b ↔ a < b := by
  rw [Int64.lt_iff_toInt_lt, pk_lT ha, pk_lT hb]; omega
theorem pk_lLE {a b : Nat} (ha : a < 2 ^ 63) (hb : b < 2 ^ 63) : lN a ≤ lN b ↔ a ≤ b := by
  rw [Int64.le_iff_toInt_le, pk_lT ha, pk_lT hb]; omega
theorem pk_lEQ {a b : Nat} (ha : a < 2 ^ 63) (hb : b < 2 ^ 63) : lN a = lN b ↔ a = b := by
  rw [← Int64.toInt_inj, pk_lT ha, pk_lT hb]; omega
theorem pk_lOf {x : Int64} (h : ¬ x < 0) : ∃ k : Nat, k < 2 ^ 63 ∧ x = lN k := by
  rw [Int64.lt_iff_toInt_lt] at h
  have h0 : (0 : Int64).toInt = 0 := by decide
  have hx := Int64.toInt_lt x
  refine ⟨x.toInt.toNat, by omega, Int64.toInt_inj.mp ?_⟩
  rw [pk_lT (by omega)]
  omega
theorem pk_lDiv {a b : Nat} (ha : a < 2 ^ 63) (h0 : 0 < b) (hb : b < 2 ^ 63) : lN a / lN b = lN (a / b) := by
  apply Int64.toInt_inj.mp
  rw [lg_ldiv_nonneg (by rw [pk_lT ha]; omega) (by rw [pk_lT hb]; omega), pk_lT ha, pk_lT hb, pk_lT (Nat.lt_of_le_of_lt (Nat.div_le_self a b) ha)]
  rfl
theorem pk_lRem {a b : Nat} (ha : a < 2 ^ 63) (h0 : 0 < b) (hb : b < 2 ^ 63) : lN a - lN a / lN b * lN b = lN (a % b) := by
  rw [pk_lDiv ha h0 hb, lN_mul, lN_sub (Nat.div_mul_le_self a b)]
  exact congrArg lN (by have := Nat.div_add_mod' a b; omega)
theorem pk_loop {σ : Type} (W : Nat → Nat → σ → Prop) (I : Nat → σ → Prop) (e i0 : Nat) (s : σ) (hi : i0 ≤ e) (h0 : I i0 s) (hx : ∀ n s, I e s → W (n + 1) e s)
    (hs : ∀ n i s, i < e → I i s → (∀ s', I (i + 1) s' → W n (i + 1) s') → W (n + 1) i s) : ∃ n, W n i0 s :=
  ⟨e + 1, loop_i W I e hx hs (e + 1) i0 s hi (by omega) h0⟩
theorem pk_loopD {σ : Type} (W : Nat → Nat → σ → Prop) (I : Nat → σ → Prop) (hx : ∀ n s, I 0 s → W (n + 1) 0 s)
    (hs : ∀ n i s, I (i + 1) s → (∀ s', I i s' → W n i s') → W (n + 1) (i + 1) s) : ∀ (e : Nat) (s : σ), I e s → W (e + 1) e s := by
  intro e
  induction e with
  | zero => exact fun s h => hx 0 s h
  | succ e ih => exact fun s h => hs (e + 1) e s h (fun s' h' => ih s' h')
theorem lp1 {A1 : Type} (W : Nat → A1 → Prop) (I : A1 → Prop) (μ : A1 → Nat) (hs : ∀ (n : Nat) (a1 : A1), I a1 → (∀ (b1 : A1), I b1 → μ b1 < μ a1 → W n b1) → W (n + 1) a1) (a1 : A1) (h : I a1) : ∃ n, W n a1 :=
  loop_m (σ := A1) (fun n s => W n s) (fun s => I s) (fun s => μ s) (fun n s hI hk => hs n s hI (fun b1 h9 hm => hk b1 h9 hm)) a1 h
theorem lp2 {A1 A2 : Type} (W : Nat → A1 → A2 → Prop) (I : A1 → A2 → Prop) (μ : A1 → A2 → Nat) (hs : ∀ (n : Nat) (a1 : A1) (a2 : A2), I a1 a2 → (∀ (b1 : A1) (b2 : A2), I b1 b2 → μ b1 b2 < μ a1 a2 → W n b1 b2) → W (n + 1) a1 a2) (a1 : A1) (a2 : A2) (h : I a1 a2) : ∃ n, W n a1 a2 :=
  loop_m (σ := A1 × A2) (fun n s => W n s.1 s.2) (fun s => I s.1 s.2) (fun s => μ s.1 s.2) (fun n s hI hk => hs n s.1 s.2 hI (fun b1 b2 h9 hm => hk (b1, b2) h9 hm)) (a1, a2) h
theorem lp3 {A1 A2 A3 : Type} (W : Nat → A1 → A2 → A3 → Prop) (I : A1 → A2 → A3 → Prop) (μ : A1 → A2 → A3 → Nat) (hs : ∀ (n : Nat) (a1 : A1) (a2 : A2) (a3 : A3), I a1 a2 a3 → (∀ (b1 : A1) (b2 : A2) (b3 : A3), I b1 b2 b3 → μ b1 b2 b3 < μ a1 a2 a3 → W n b1 b2 b3) → W (n + 1) a1 a2 a3) (a1 : A1) (a2 : A2) (a3 : A3) (h : I a1 a2 a3) : ∃ n, W n a1 a2 a3 :=
  loop_m (σ := A1 × A2 × A3) (fun n s => W n s.1 s.2.1 s.2.2) (fun s => I s.1 s.2.1 s.2.2) (fun s => μ s.1 s.2.1 s.2.2) (fun n s hI hk => hs n s.1 s.2.1 s.2.2 hI (fun b1 b2 b3 h9 hm => hk (b1, b2, b3) h9 hm)) (a1, a2, a3) h
theorem lp4 {A1 A2 A3 A4 : Type} (W : Nat → A1 → A2 → A3 → A4 → Prop) (I : A1 → A2 → A3 → A4 → Prop) (μ : A1 → A2 → A3 → A4 → Nat) (hs : ∀ (n : Nat) (a1 : A1) (a2 : A2) (a3 : A3) (a4 : A4), I a1 a2 a3 a4 → (∀ (b1 : A1) (b2 : A2) (b3 : A3) (b4 : A4), I b1 b2 b3 b4 → μ b1 b2 b3 b4 < μ a1 a2 a3 a4 → W n b1 b2 b3 b4) → W (n + 1) a1 a2 a3 a4) (a1 : A1) (a2 : A2) (a3 : A3) (a4 : A4) (h : I a1 a2 a3 a4) : ∃ n, W n a1 a2 a3 a4 :=
  loop_m (σ := A1 × A2 × A3 × A4) (fun n s => W n s.1 s.2.1 s.2.2.1 s.2.2.2) (fun s => I s.1 s.2.1 s.2.2.1 s.2.2.2) (fun s => μ s.1 s.2.1 s.2.2.1 s.2.2.2) (fun n s hI hk => hs n s.1 s.2.1 s.2.2.1 s.2.2.2 hI (fun b1 b2 b3 b4 h9 hm => hk (b1, b2, b3, b4) h9 hm)) (a1, a2, a3, a4) h
theorem lp5 {A1 A2 A3 A4 A5 : Type} (W : Nat → A1 → A2 → A3 → A4 → A5 → Prop) (I : A1 → A2 → A3 → A4 → A5 → Prop) (μ : A1 → A2 → A3 → A4 → A5 → Nat) (hs : ∀ (n : Nat) (a1 : A1) (a2 : A2) (a3 : A3) (a4 : A4) (a5 : A5), I a1 a2 a3 a4 a5 → (∀ (b1 : A1) (b2 : A2) (b3 : A3) (b4 : A4) (b5 : A5), I b1 b2 b3 b4 b5 → μ b1 b2 b3 b4 b5 < μ a1 a2 a3 a4 a5 → W n b1 b2 b3 b4 b5) → W (n + 1) a1 a2 a3 a4 a5) (a1 : A1) (a2 : A2) (a3 : A3) (a4 : A4) (a5 : A5) (h : I a1 a2 a3 a4 a5) : ∃ n, W n a1 a2 a3 a4 a5 :=
  loop_m (σ := A1 × A2 × A3 × A4 × A5) (fun n s => W n s.1 s.2.1 s.2.2.1 s.2.2.2.1 s.2.2.2.2) (fun s => I s.1 s.2.1 s.2.2.1 s.2.2.2.1 s.2.2.2.2) (fun s => μ s.1 s.2.1 s.2.2.1 s.2.2.2.1 s.2.2.2.2) (fun n s hI hk => hs n s.1 s.2.1 s.2.2.1 s.2.2.2.1 s.2.2.2.2 hI (fun b1 b2 b3 b4 b5 h9 hm => hk (b1, b2, b3, b4, b5) h9 hm)) (a1, a2, a3, a4, a5) h
theorem lp6 {A1 A2 A3 A4 A5 A6 : Type} (W : Nat → A1 → A2 → A3 → A4 → A5 → A6 → Prop) (I : A1 → A2 → A3 → A4 → A5 → A6 → Prop) (μ : A1 → A2 → A3 → A4 → A5 → A6 → Nat) (hs : ∀ (n : Nat) (a1 : A1) (a2 : A2) (a3 : A3) (a4 : A4) (a5 : A5) (a6 : A6), I a1 a2 a3 a4 a5 a6 → (∀ (b1 : A1) (b2 : A2) (b3 : A3) (b4 : A4) (b5 : A5) (b6 : A6), I b1 b2 b3 b4 b5 b6 → μ b1 b2 b3 b4 b5 b6 < μ a1 a2 a3 a4 a5 a6 → W n b1 b2 b3 b4 b5 b6) → W (n + 1) a1 a2 a3 a4 a5 a6) (a1 : A1) (a2 : A2) (a3 : A3) (a4 : A4) (a5 : A5) (a6 : A6) (h : I a1 a2 a3 a4 a5 a6) : ∃ n, W n a1 a2 a3 a4 a5 a6 :=
  loop_m (σ := A1 × A2 × A3 × A4 × A5 × A6) (fun n s => W n s.1 s.2.1 s.2.2.1 s.2.2.2.1 s.2.2.2.2.1 s.2.2.2.2.2) (fun s => I s.1 s.2.1 s.2.2.1 s.2.2.2.1 s.2.2.2.2.1 s.2.2.2.2.2) (fun s => μ s.1 s.2.1 s.2.2.1 s.2.2.2.1 s.2.2.2.2.1 s.2.2.2.2.2) (fun n s hI hk => hs n s.1 s.2.1 s.2.2.1 s.2.2.2.1 s.2.2.2.2.1 s.2.2.2.2.2 hI (fun b1 b2 b3 b4 b5 b6 h9 hm => hk (b1, b2, b3, b4, b5, b6) h9 hm)) (a1, a2, a3, a4, a5, a6) h
theorem lp7 {A1 A2 A3 A4 A5 A6 A7 : Type} (W : Nat → A1 → A2 → A3 → A4 → A5 → A6 → A7 → Prop) (I : A1 → A2 → A3 → A4 → A5 → A6 → A7 → Prop) (μ : A1 → A2 → A3 → A4 → A5 → A6 → A7 → Nat) (hs : ∀ (n : Nat) (a1 : A1) (a2 : A2) (a3 : A3) (a4 : A4) (a5 : A5) (a6 : A6) (a7 : A7), I a1 a2 a3 a4 a5 a6 a7 → (∀ (b1 : A1) (b2 : A2) (b3 : A3) (b4 : A4) (b5 : A5) (b6 : A6) (b7 : A7), I b1 b2 b3 b4 b5 b6 b7 → μ b1 b2 b3 b4 b5 b6 b7 < μ a1 a2 a3 a4 a5 a6 a7 → W n b1 b2 b3 b4 b5 b6 b7) → W (n + 1) a1 a2 a3 a4 a5 a6 a7) (a1 : A1) (a2 : A2) (a3 : A3) (a4 : A4) (a5 : A5) (a6 : A6) (a7 : A7) (h : I a1 a2 a3 a4 a5 a6 a7) : ∃ n, W n a1 a2 a3 a4 a5 a6 a7 :=
  loop_m (σ := A1 × A2 × A3 × A4 × A5 × A6 × A7) (fun n s => W n s.1 s.2.1 s.2.2.1 s.2.2.2.1 s.2.2.2.2.1 s.2.2.2.2.2.1 s.2.2.2.2.2.2) (fun s => I s.1 s.2.1 s.2.2.1 s.2.2.2.1 s.2.2.2.2.1 s.2.2.2.2.2.1 s.2.2.2.2.2.2) (fun s => μ s.1 s.2.1 s.2.2.1 s.2.2.2.1 s.2.2.2.2.1 s.2.2.2.2.2.1 s.2.2.2.2.2.2) (fun n s hI hk => hs n s.1 s.2.1 s.2.2.1 s.2.2.2.1 s.2.2.2.2.1 s.2.2.2.2.2.1 s.2.2.2.2.2.2 hI (fun b1 b2 b3 b4 b5 b6 b7 h9 hm => hk (b1, b2, b3, b4, b5, b6, b7) h9 hm)) (a1, a2, a3, a4, a5, a6, a7) h
theorem lp8 {A1 A2 A3 A4 A5 A6 A7 A8 : Type} (W : Nat → A1 → A2 → A3 → A4 → A5 → A6 → A7 → A8 → Prop) (I : A1 → A2 → A3 → A4 → A5 → A6 → A7 → A8 → Prop) (μ : A1 → A2 → A3 → A4 → A5 → A6 → A7 → A8 → Nat) (hs : ∀ (n : Nat) (a1 : A1) (a2 : A2) (a3 : A3) (a4 : A4) (a5 : A5) (a6 : A6) (a7 : A7) (a8 : A8), I a1 a2 a3 a4 a5 a6 a7 a8 → (∀ (b1 : A1) (b2 : A2) (b3 : A3) (b4 : A4) (b5 : A5) (b6 : A6) (b7 : A7) (b8 : A8), I b1 b2 b3 b4 b5 b6 b7 b8 → μ b1 b2 b3 b4 b5 b6 b7 b8 < μ a1 a2 a3 a4 a5 a6 a7 a8 → W n b1 b2 b3 b4 b5 b6 b7 b8) → W (n + 1) a1 a2 a3 a4 a5 a6 a7 a8) (a1 : A1) (a2 : A2) (a3 : A3) (a4 : A4) (a5 : A5) (a6 : A6) (a7 : A7) (a8 : A8) (h : I a1 a2 a3 a4 a5 a6 a7 a8) : ∃ n, W n a1 a2 a3 a4 a5 a6 a7 a8 :=
  loop_m (σ := A1 × A2 × A3 × A4 × A5 × A6 × A7 × A8) (fun n s => W n s.1 s.2.1 s.2.2.1 s.2.2.2.1 s.2.2.2.2.1 s.2.2.2.2.2.1 s.2.2.2.2.2.2.1 s.2.2.2.2.2.2.2) (fun s => I s.1 s.2.1 s.2.2.1 s.2.2.2.1 s.2.2.2.2.1 s.2.2.2.2.2.1 s.2.2.2.2.2.2.1 s.2.2.2.2.2.2.2) (fun s => μ s.1 s.2.1 s.2.2.1 s.2.2.2.1 s.2.2.2.2.1 s.2.2.2.2.2.1 s.2.2.2.2.2.2.1 s.2.2.2.2.2.2.2) (fun n s hI hk => hs n s.1 s.2.1 s.2.2.1 s.2.2.2.1 s.2.2.2.2.1 s.2.2.2.2.2.1 s.2.2.2.2.2.2.1 s.2.2.2.2.2.2.2 hI (fun b1 b2 b3 b4 b5 b6 b7 b8 h9 hm => hk (b1, b2, b3, b4, b5, b6, b7, b8) h9 hm)) (a1, a2, a3, a4, a5, a6, a7, a8) h
theorem lp9 {A1 A2 A3 A4 A5 A6 A7 A8 A9 : Type} (W : Nat → A1 → A2 → A3 → A4 → A5 → A6 → A7 → A8 → A9 → Prop) (I : A1 → A2 → A3 → A4 → A5 → A6 → A7 → A8 → A9 → Prop) (μ : A1 → A2 → A3 → A4 → A5 → A6 → A7 → A8 → A9 → Nat) (hs : ∀ (n : Nat) (a1 : A1) (a2 : A2) (a3 : A3) (a4 : A4) (a5 : A5) (a6 : A6) (a7 : A7) (a8 : A8) (a9 : A9), I a1 a2 a3 a4 a5 a6 a7 a8 a9 → (∀ (b1 : A1) (b2 : A2) (b3 : A3) (b4 : A4) (b5 : A5) (b6 : A6) (b7 : A7) (b8 : A8) (b9 : A9), I b1 b2 b3 b4 b5 b6 b7 b8 b9 → μ b1 b2 b3 b4 b5 b6 b7 b8 b9 < μ a1 a2 a3 a4 a5 a6 a7 a8 a9 → W n b1 b2 b3 b4 b5 b6 b7 b8 b9) → W (n + 1) a1 a2 a3 a4 a5 a6 a7 a8 a9) (a1 : A1) (a2 : A2) (a3 : A3) (a4 : A4) (a5 : A5) (a6 : A6) (a7 : A7) (a8 : A8) (a9 : A9) (h : I a1 a2 a3 a4 a5 a6 a7 a8 a9) : ∃ n, W n a1 a2 a3 a4 a5 a6 a7 a8 a9 :=
  loop_m (σ := A1 × A2 × A3 × A4 × A5 × A6 × A7 × A8 × A9) (fun n s => W n s.1 s.2.1 s.2.2.1 s.2.2.2.1 s.2.2.2.2.1 s.2.2.2.2.2.1 s.2.2.2.2.2.2.1 s.2.2.2.2.2.2.2.1 s.2.2.2.2.2.2.2.2) (fun s => I s.1 s.2.1 s.2.2.1 s.2.2.2.1 s.2.2.2.2.1 s.2.2.2.2.2.1 s.2.2.2.2.2.2.1 s.2.2.2.2.2.2.2.1 s.2.2.2.2.2.2.2.2) (fun s => μ s.1 s.2.1 s.2.2.1 s.2.2.2.1 s.2.2.2.2.1 s.2.2.2.2.2.1 s.2.2.2.2.2.2.1 s.2.2.2.2.2.2.2.1 s.2.2.2.2.2.2.2.2) (fun n s hI hk => hs n s.1 s.2.1 s.2.2.1 s.2.2.2.1 s.2.2.2.2.1 s.2.2.2.2.2.1 s.2.2.2.2.2.2.1 s.2.2.2.2.2.2.2.1 s.2.2.2.2.2.2.2.2 hI (fun b1 b2 b3 b4 b5 b6 b7 b8 b9 h9 hm => hk (b1, b2, b3, b4, b5, b6, b7, b8, b9) h9 hm)) (a1, a2, a3, a4, a5, a6, a7, a8, a9) h
theorem lp10 {A1 A2 A3 A4 A5 A6 A7 A8 A9 A10 : Type} (W : Nat → A1 → A2 → A3 → A4 → A5 → A6 → A7 → A8 → A9 → A10 → Prop) (I : A1 → A2 → A3 → A4 → A5 → A6 → A7 → A8 → A9 → A10 → Prop) (μ : A1 → A2 → A3 → A4 → A5 → A6 → A7 → A8 → A9 → A10 → Nat) (hs : ∀ (n : Nat) (a1 : A1) (a2 : A2) (a3 : A3) (a4 : A4) (a5 : A5) (a6 : A6) (a7 : A7) (a8 : A8) (a9 : A9) (a10 : A10), I a1 a2 a3 a4 a5 a6 a7 a8 a9 a10 → (∀ (b1 : A1) (b2 : A2) (b3 : A3) (b4 : A4) (b5 : A5) (b6 : A6) (b7 : A7) (b8 : A8) (b9 : A9) (b10 : A10), I b1 b2 b3 b4 b5 b6 b7 b8 b9 b10 → μ b1 b2 b3 b4 b5 b6 b7 b8 b9 b10 < μ a1 a2 a3 a4 a5 a6 a7 a8 a9 a10 → W n b1 b2 b3 b4 b5 b6 b7 b8 b9 b10) → W (n + 1) a1 a2 a3 a4 a5 a6 a7 a8 a9 a10) (a1 : A1) (a2 : A2) (a3 : A3) (a4 : A4) (a5 : A5) (a6 : A6) (a7 : A7) (a8 : A8) (a9 : A9) (a10 : A10) (h : I a1 a2 a3 a4 a5 a6 a7 a8 a9 a10) : ∃ n, W n a1 a2 a3 a4 a5 a6 a7 a8 a9 a10 :=
  loop_m (σ := A1 × A2 × A3 × A4 × A5 × A6 × A7 × A8 × A9 × A10) (fun n s => W n s.1 s.2.1 s.2.2.1 s.2.2.2.1 s.2.2.2.2.1 s.2.2.2.2.2.1 s.2.2.2.2.2.2.1 s.2.2.2.2.2.2.2.1 s.2.2.2.2.2.2.2.2.1 s.2.2.2.2.2.2.2.2.2) (fun s => I s.1 s.2.1 s.2.2.1 s.2.2.2.1 s.2.2.2.2.1 s.2.2.2.2.2.1 s.2.2.2.2.2.2.1 s.2.2.2.2.2.2.2.1 s.2.2.2.2.2.2.2.2.1 s.2.2.2.2.2.2.2.2.2) (fun s => μ s.1 s.2.1 s.2.2.1 s.2.2.2.1 s.2.2.2.2.1 s.2.2.2.2.2.1 s.2.2.2.2.2.2.1 s.2.2.2.2.2.2.2.1 s.2.2.2.2.2.2.2.2.1 s.2.2.2.2.2.2.2.2.2) (fun n s hI hk => hs n s.1 s.2.1 s.2.2.1 s.2.2.2.1 s.2.2.2.2.1 s.2.2.2.2.2.1 s.2.2.2.2.2.2.1 s.2.2.2.2.2.2.2.1 s.2.2.2.2.2.2.2.2.1 s.2.2.2.2.2.2.2.2.2 hI (fun b1 b2 b3 b4 b5 b6 b7 b8 b9 b10 h9 hm => hk (b1, b2, b3, b4, b5, b6, b7, b8, b9, b10) h9 hm)) (a1, a2, a3, a4, a5, a6, a7, a8, a9, a10) h
theorem lp11 {A1 A2 A3 A4 A5 A6 A7 A8 A9 A10 A11 : Type} (W : Nat → A1 → A2 → A3 → A4 → A5 → A6 → A7 → A8 → A9 → A10 → A11 → Prop) (I : A1 → A2 → A3 → A4 → A5 → A6 → A7 → A8 → A9 → A10 → A11 → Prop) (μ : A1 → A2 → A3 → A4 → A5 → A6 → A7 → A8 → A9 → A10 → A11 → Nat) (hs : ∀ (n : Nat) (a1 : A1) (a2 : A2) (a3 : A3) (a4 : A4) (a5 : A5) (a6 : A6) (a7 : A7) (a8 : A8) (a9 : A9) (a10 : A10) (a11 : A11), I a1 a2 a3 a4 a5 a6 a7 a8 a9 a10 a11 → (∀ (b1 : A1) (b2 : A2) (b3 : A3) (b4 : A4) (b5 : A5) (b6 : A6) (b7 : A7) (b8 : A8) (b9 : A9) (b10 : A10) (b11 : A11), I b1 b2 b3 b4 b5 b6 b7 b8 b9 b10 b11 → μ b1 b2 b3 b4 b5 b6 b7 b8 b9 b10 b11 < μ a1 a2 a3 a4 a5 a6 a7 a8 a9 a10 a11 → W n b1 b2 b3 b4 b5 b6 b7 b8 b9 b10 b11) → W (n + 1) a1 a2 a3 a4 a5 a6 a7 a8 a9 a10 a11) (a1 : A1) (a2 : A2) (a3 : A3) (a4 : A4) (a5 : A5) (a6 : A6) (a7 : A7) (a8 : A8) (a9 : A9) (a10 : A10) (a11 : A11) (h : I a1 a2 a3 a4 a5 a6 a7 a8 a9 a10 a11) : ∃ n, W n a1 a2 a3 a4 a5 a6 a7 a8 a9 a10 a11 :=
  loop_m (σ := A1 × A2 × A3 × A4 × A5 × A6 × A7 × A8 × A9 × A10 × A11) (fun n s => W n s.1 s.2.1 s.2.2.1 s.2.2.2.1 s.2.2.2.2.1 s.2.2.2.2.2.1 s.2.2.2.2.2.2.1 s.2.2.2.2.2.2.2.1 s.2.2.2.2.2.2.2.2.1 s.2.2.2.2.2.2.2.2.2.1 s.2.2.2.2.2.2.2.2.2.2) (fun s => I s.1 s.2.1 s.2.2.1 s.2.2.2.1 s.2.2.2.2.1 s.2.2.2.2.2.1 s.2.2.2.2.2.2.1 s.2.2.2.2.2.2.2.1 s.2.2.2.2.2.2.2.2.1 s.2.2.2.2.2.2.2.2.2.1 s.2.2.2.2.2.2.2.2.2.2) (fun s => μ s.1 s.2.1 s.2.2.1 s.2.2.2.1 s.2.2.2.2.1 s.2.2.2.2.2.1 s.2.2.2.2.2.2.1 s.2.2.2.2.2.2.2.1 s.2.2.2.2.2.2.2.2.1 s.2.2.2.2.2.2.2.2.2.1 s.2.2.2.2.2.2.2.2.2.2) (fun n s hI hk => hs n s.1 s.2.1 s.2.2.1 s.2.2.2.1 s.2.2.2.2.1 s.2.2.2.2.2.1 s.2.2.2.2.2.2.1 s.2.2.2.2.2.2.2.1 s.2.2.2.2.2.2.2.2.1 s.2.2.2.2.2.2.2.2.2.1 s.2.2.2.2.2.2.2.2.2.2 hI (fun b1 b2 b3 b4 b5 b6 b7 b8 b9 b10 b11 h9 hm => hk (b1, b2, b3, b4, b5, b6, b7, b8, b9, b10, b11) h9 hm)) (a1, a2, a3, a4, a5, a6, a7, a8, a9, a10, a11) h
theorem lp12 {A1 A2 A3 A4 A5 A6 A7 A8 A9 A10 A11 A12 : Type} (W : Nat → A1 → A2 → A3 → A4 → A5 → A6 → A7 → A8 → A9 → A10 → A11 → A12 → Prop) (I : A1 → A2 → A3 → A4 → A5 → A6 → A7 → A8 → A9 → A10 → A11 → A12 → Prop) (μ : A1 → A2 → A3 → A4 → A5 → A6 → A7 → A8 → A9 → A10 → A11 → A12 → Nat) (hs : ∀ (n : Nat) (a1 : A1) (a2 : A2) (a3 : A3) (a4 : A4) (a5 : A5) (a6 : A6) (a7 : A7) (a8 : A8) (a9 : A9) (a10 : A10) (a11 : A11) (a12 : A12), I a1 a2 a3 a4 a5 a6 a7 a8 a9 a10 a11 a12 → (∀ (b1 : A1) (b2 : A2) (b3 : A3) (b4 : A4) (b5 : A5) (b6 : A6) (b7 : A7) (b8 : A8) (b9 : A9) (b10 : A10) (b11 : A11) (b12 : A12), I b1 b2 b3 b4 b5 b6 b7 b8 b9 b10 b11 b12 → μ b1 b2 b3 b4 b5 b6 b7 b8 b9 b10 b11 b12 < μ a1 a2 a3 a4 a5 a6 a7 a8 a9 a10 a11 a12 → W n b1 b2 b3 b4 b5 b6 b7 b8 b9 b10 b11 b12) → W (n + 1) a1 a2 a3 a4 a5 a6 a7 a8 a9 a10 a11 a12) (a1 : A1) (a2 : A2) (a3 : A3) (a4 : A4) (a5 : A5) (a6 : A6) (a7 : A7) (a8 : A8) (a9 : A9) (a10 : A10) (a11 : A11) (a12 : A12) (h : I a1 a2 a3 a4 a5 a6 a7 a8 a9 a10 a11 a12) : ∃ n, W n a1 a2 a3 a4 a5 a6 a7 a8 a9 a10 a11 a12 :=
  loop_m (σ := A1 × A2 × A3 × A4 × A5 × A6 × A7 × A8 × A9 × A10 × A11 × A12) (fun n s => W n s.1 s.2.1 s.2.2.1 s.2.2.2.1 s.2.2.2.2.1 s.2.2.2.2.2.1 s.2.2.2.2.2.2.1 s.2.2.2.2.2.2.2.1 s.2.2.2.2.2.2.2.2.1 s.2.2.2.2.2.2.2.2.2.1 s.2.2.2.2.2.2.2.2.2.2.1 s.2.2.2.2.2.2.2.2.2.2.2) (fun s => I s.1 s.2.1 s.2.2.1 s.2.2.2.1 s.2.2.2.2.1 s.2.2.2.2.2.1 s.2.2.2.2.2.2.1 s.2.2.2.2.2.2.2.1 s.2.2.2.2.2.2.2.2.1 s.2.2.2.2.2.2.2.2.2.1 s.2.2.2.2.2.2.2.2.2.2.1 s.2.2.2.2.2.2.2.2.2.2.2) (fun s => μ s.1 s.2.1 s.2.2.1 s.2.2.2.1 s.2.2.2.2.1 s.2.2.2.2.2.1 s.2.2.2.2.2.2.1 s.2.2.2.2.2.2.2.1 s.2.2.2.2.2.2.2.2.1 s.2.2.2.2.2.2.2.2.2.1 s.2.2.2.2.2.2.2.2.2.2.1 s.2.2.2.2.2.2.2.2.2.2.2) (fun n s hI hk => hs n s.1 s.2.1 s.2.2.1 s.2.2.2.1 s.2.2.2.2.1 s.2.2.2.2.2.1 s.2.2.2.2.2.2.1 s.2.2.2.2.2.2.2.1 s.2.2.2.2.2.2.2.2.1 s.2.2.2.2.2.2.2.2.2.1 s.2.2.2.2.2.2.2.2.2.2.1 s.2.2.2.2.2.2.2.2.2.2.2 hI (fun b1 b2 b3 b4 b5 b6 b7 b8 b9 b10 b11 b12 h9 hm => hk (b1, b2, b3, b4, b5, b6, b7, b8, b9, b10, b11, b12) h9 hm)) (a1, a2, a3, a4, a5, a6, a7, a8, a9, a10, a11, a12) h
theorem lp13 {A1 A2 A3 A4 A5 A6 A7 A8 A9 A10 A11 A12 A13 : Type} (W : Nat → A1 → A2 → A3 → A4 → A5 → A6 → A7 → A8 → A9 → A10 → A11 → A12 → A13 → Prop) (I : A1 → A2 → A3 → A4 → A5 → A6 → A7 → A8 → A9 → A10 → A11 → A12 → A13 → Prop) (μ : A1 → A2 → A3 → A4 → A5 → A6 → A7 → A8 → A9 → A10 → A11 → A12 → A13 → Nat) (hs : ∀ (n : Nat) (a1 : A1) (a2 : A2) (a3 : A3) (a4 : A4) (a5 : A5) (a6 : A6) (a7 : A7) (a8 : A8) (a9 : A9) (a10 : A10) (a11 : A11) (a12 : A12) (a13 : A13), I a1 a2 a3 a4 a5 a6 a7 a8 a9 a10 a11 a12 a13 → (∀ (b1 : A1) (b2 : A2) (b3 : A3) (b4 : A4) (b5 : A5) (b6 : A6) (b7 : A7) (b8 : A8) (b9 : A9) (b10 : A10) (b11 : A11) (b12 : A12) (b13 : A13), I b1 b2 b3 b4 b5 b6 b7 b8 b9 b10 b11 b12 b13 → μ b1 b2 b3 b4 b5 b6 b7 b8 b9 b10 b11 b12 b13 < μ a1 a2 a3 a4 a5 a6 a7 a8 a9 a10 a11 a12 a13 → W n b1 b2 b3 b4 b5 b6 b7 b8 b9 b10 b11 b12 b13) → W (n + 1) a1 a2 a3 a4 a5 a6 a7 a8 a9 a10 a11 a12 a13) (a1 : A1) (a2 : A2) (a3 : A3) (a4 : A4) (a5 : A5) (a6 : A6) (a7 : A7) (a8 : A8) (a9 : A9) (a10 : A10) (a11 : A11) (a12 : A12) (a13 : A13) (h : I a1 a2 a3 a4 a5 a6 a7 a8 a9 a10 a11 a12 a13) : ∃ n, W n a1 a2 a3 a4 a5 a6 a7 a8 a9 a10 a11 a12 a13 :=
  loop_m (σ := A1 × A2 × A3 × A4 × A5 × A6 × A7 × A8 × A9 × A10 × A11 × A12 × A13) (fun n s => W n s.1 s.2.1 s.2.2.1 s.2.2.2.1 s.2.2.2.2.1 s.2.2.2.2.2.1 s.2.2.2.2.2.2.1 s.2.2.2.2.2.2.2.1 s.2.2.2.2.2.2.2.2.1 s.2.2.2.2.2.2.2.2.2.1 s.2.2.2.2.2.2.2.2.2.2.1 s.2.2.2.2.2.2.2.2.2.2.2.1 s.2.2.2.2.2.2.2.2.2.2.2.2) (fun s => I s.1 s.2.1 s.2.2.1 s.2.2.2.1 s.2.2.2.2.1 s.2.2.2.2.2.1 s.2.2.2.2.2.2.1 s.2.2.2.2.2.2.2.1 s.2.2.2.2.2.2.2.2.1 s.2.2.2.2.2.2.2.2.2.1 s.2.2.2.2.2.2.2.2.2.2.1 s.2.2.2.2.2.2.2.2.2.2.2.1 s.2.2.2.2.2.2.2.2.2.2.2.2) (fun s => μ s.1 s.2.1 s.2.2.1 s.2.2.2.1 s.2.2.2.2.1 s.2.2.2.2.2.1 s.2.2.2.2.2.2.1 s.2.2.2.2.2.2.2.1 s.2.2.2.2.2.2.2.2.1 s.2.2.2.2.2.2.2.2.2.1 s.2.2.2.2.2.2.2.2.2.2.1 s.2.2.2.2.2.2.2.2.2.2.2.1 s.2.2.2.2.2.2.2.2.2.2.2.2) (fun n s hI hk => hs n s.1 s.2.1 s.2.2.1 s.2.2.2.1 s.2.2.2.2.1 s.2.2.2.2.2.1 s.2.2.2.2.2.2.1 s.2.2.2.2.2.2.2.1 s.2.2.2.2.2.2.2.2.1 s.2.2.2.2.2.2.2.2.2.1 s.2.2.2.2.2.2.2.2.2.2.1 s.2.2.2.2.2.2.2.2.2.2.2.1 s.2.2.2.2.2.2.2.2.2.2.2.2 hI (fun b1 b2 b3 b4 b5 b6 b7 b8 b9 b10 b11 b12 b13 h9 hm => hk (b1, b2, b3, b4, b5, b6, b7, b8, b9, b10, b11, b12, b13) h9 hm)) (a1, a2, a3, a4, a5, a6, a7, a8, a9, a10, a11, a12, a13) h
theorem lp14 {A1 A2 A3 A4 A5 A6 A7 A8 A9 A10 A11 A12 A13 A14 : Type} (W : Nat → A1 → A2 → A3 → A4 → A5 → A6 → A7 → A8 → A9 → A10 → A11 → A12 → A13 → A14 → Prop) (I : A1 → A2 → A3 → A4 → A5 → A6 → A7 → A8 → A9 → A10 → A11 → A12 → A13 → A14 → Prop) (μ : A1 → A2 → A3 → A4 → A5 → A6 → A7 → A8 → A9 → A10 → A11 → A12 → A13 → A14 → Nat) (hs : ∀ (n : Nat) (a1 : A1) (a2 : A2) (a3 : A3) (a4 : A4) (a5 : A5) (a6 : A6) (a7 : A7) (a8 : A8) (a9 : A9) (a10 : A10) (a11 : A11) (a12 : A12) (a13 : A13) (a14 : A14), I a1 a2 a3 a4 a5 a6 a7 a8 a9 a10 a11 a12 a13 a14 → (∀ (b1 : A1) (b2 : A2) (b3 : A3) (b4 : A4) (b5 : A5) (b6 : A6) (b7 : A7) (b8 : A8) (b9 : A9) (b10 : A10) (b11 : A11) (b12 : A12) (b13 : A13) (b14 : A14), I b1 b2 b3 b4 b5 b6 b7 b8 b9 b10 b11 b12 b13 b14 → μ b1 b2 b3 b4 b5 b6 b7 b8 b9 b10 b11 b12 b13 b14 < μ a1 a2 a3 a4 a5 a6 a7 a8 a9 a10 a11 a12 a13 a14 → W n b1 b2 b3 b4 b5 b6 b7 b8 b9 b10 b11 b12 b13 b14) → W (n + 1) a1 a2 a3 a4 a5 a6 a7 a8 a9 a10 a11 a12 a13 a14) (a1 : A1) (a2 : A2) (a3 : A3) (a4 : A4) (a5 : A5) (a6 : A6) (a7 : A7) (a8 : A8) (a9 : A9) (a10 : A10) (a11 : A11) (a12 : A12) (a13 : A13) (a14 : A14) (h : I a1 a2 a3 a4 a5 a6 a7 a8 a9 a10 a11 a12 a13 a14) : ∃ n, W n a1 a2 a3 a4 a5 a6 a7 a8 a9 a10 a11 a12 a13 a14 :=
  loop_m (σ := A1 × A2 × A3 × A4 × A5 × A6 × A7 × A8 × A9 × A10 × A11 × A12 × A13 × A14) (fun n s => W n s.1 s.2.1 s.2.2.1 s.2.2.2.1 s.2.2.2.2.1 s.2.2.2.2.2.1 s.2.2.2.2.2.2.1 s.2.2.2.2.2.2.2.1 s.2.2.2.2.2.2.2.2.1 s.2.2.2.2.2.2.2.2.2.1 s.2.2.2.2.2.2.2.2.2.2.1 s.2.2.2.2.2.2.2.2.2.2.2.1 s.2.2.2.2.2.2.2.2.2.2.2.2.1 s.2.2.2.2.2.2.2.2.2.2.2.2.2) (fun s => I s.1 s.2.1 s.2.2.1 s.2.2.2.1 s.2.2.2.2.1 s.2.2.2.2.2.1 s.2.2.2.2.2.2.1 s.2.2.2.2.2.2.2.1 s.2.2.2.2.2.2.2.2.1 s.2.2.2.2.2.2.2.2.2.1 s.2.2.2.2.2.2.2.2.2.2.1 s.2.2.2.2.2.2.2.2.2.2.2.1 s.2.2.2.2.2.2.2.2.2.2.2.2.1 s.2.2.2.2.2.2.2.2.2.2.2.2.2) (fun s => μ s.1 s.2.1 s.2.2.1 s.2.2.2.1 s.2.2.2.2.1 s.2.2.2.2.2.1 s.2.2.2.2.2.2.1 s.2.2.2.2.2.2.2.1 s.2.2.2.2.2.2.2.2.1 s.2.2.2.2.2.2.2.2.2.1 s.2.2.2.2.2.2.2.2.2.2.1 s.2.2.2.2.2.2.2.2.2.2.2.1 s.2.2.2.2.2.2.2.2.2.2.2.2.1 s.2.2.2.2.2.2.2.2.2.2.2.2.2) (fun n s hI hk => hs n s.1 s.2.1 s.2.2.1 s.2.2.2.1 s.2.2.2.2.1 s.2.2.2.2.2.1 s.2.2.2.2.2.2.1 s.2.2.2.2.2.2.2.1 s.2.2.2.2.2.2.2.2.1 s.2.2.2.2.2.2.2.2.2.1 s.2.2.2.2.2.2.2.2.2.2.1 s.2.2.2.2.2.2.2.2.2.2.2.1 s.2.2.2.2.2.2.2.2.2.2.2.2.1 s.2.2.2.2.2.2.2.2.2.2.2.2.2 hI (fun b1 b2 b3 b4 b5 b6 b7 b8 b9 b10 b11 b12 b13 b14 h9 hm => hk (b1, b2, b3, b4, b5, b6, b7, b8, b9, b10, b11, b12, b13, b14) h9 hm)) (a1, a2, a3, a4, a5, a6, a7, a8, a9, a10, a11, a12, a13, a14) h
theorem lp15 {A1 A2 A3 A4 A5 A6 A7 A8 A9 A10 A11 A12 A13 A14 A15 : Type} (W : Nat → A1 → A2 → A3 → A4 → A5 → A6 → A7 → A8 → A9 → A10 → A11 → A12 → A13 → A14 → A15 → Prop) (I : A1 → A2 → A3 → A4 → A5 → A6 → A7 → A8 → A9 → A10 → A11 → A12 → A13 → A14 → A15 → Prop) (μ : A1 → A2 → A3 → A4 → A5 → A6 → A7 → A8 → A9 → A10 → A11 → A12 → A13 → A14 → A15 → Nat) (hs : ∀ (n : Nat) (a1 : A1) (a2 : A2) (a3 : A3) (a4 : A4) (a5 : A5) (a6 : A6) (a7 : A7) (a8 : A8) (a9 : A9) (a10 : A10) (a11 : A11) (a12 : A12) (a13 : A13) (a14 : A14) (a15 : A15), I a1 a2 a3 a4 a5 a6 a7 a8 a9 a10 a11 a12 a13 a14 a15 → (∀ (b1 : A1) (b2 : A2) (b3 : A3) (b4 : A4) (b5 : A5) (b6 : A6) (b7 : A7) (b8 : A8) (b9 : A9) (b10 : A10) (b11 : A11) (b12 : A12) (b13 : A13) (b14 : A14) (b15 : A15), I b1 b2 b3 b4 b5 b6 b7 b8 b9 b10 b11 b12 b13 b14 b15 → μ b1 b2 b3 b4 b5 b6 b7 b8 b9 b10 b11 b12 b13 b14 b15 < μ a1 a2 a3 a4 a5 a6 a7 a8 a9 a10 a11 a12 a13 a14 a15 → W n b1 b2 b3 b4 b5 b6 b7 b8 b9 b10 b11 b12 b13 b14 b15) → W (n + 1) a1 a2 a3 a4 a5 a6 a7 a8 a9 a10 a11 a12 a13 a14 a15) (a1 : A1) (a2 : A2) (a3 : A3) (a4 : A4) (a5 : A5) (a6 : A6) (a7 : A7) (a8 : A8) (a9 : A9) (a10 : A10) (a11 : A11) (a12 : A12) (a13 : A13) (a14 : A14) (a15 : A15) (h : I a1 a2 a3 a4 a5 a6 a7 a8 a9 a10 a11 a12 a13 a14 a15) : ∃ n, W n a1 a2 a3 a4 a5 a6 a7 a8 a9 a10 a11 a12 a13 a14 a15 :=
  loop_m (σ := A1 × A2 × A3 × A4 × A5 × A6 × A7 × A8 × A9 × A10 × A11 × A12 × A13 × A14 × A15) (fun n s => W n s.1 s.2.1 s.2.2.1 s.2.2.2.1 s.2.2.2.2.1 s.2.2.2.2.2.1 s.2.2.2.2.2.2.1 s.2.2.2.2.2.2.2.1 s.2.2.2.2.2.2.2.2.1 s.2.2.2.2.2.2.2.2.2.1 s.2.2.2.2.2.2.2.2.2.2.1 s.2.2.2.2.2.2.2.2.2.2.2.1 s.2.2.2.2.2.2.2.2.2.2.2.2.1 s.2.2.2.2.2.2.2.2.2.2.2.2.2.1 s.2.2.2.2.2.2.2.2.2.2.2.2.2.2) (fun s => I s.1 s.2.1 s.2.2.1 s.2.2.2.1 s.2.2.2.2.1 s.2.2.2.2.2.1 s.2.2.2.2.2.2.1 s.2.2.2.2.2.2.2.1 s.2.2.2.2.2.2.2.2.1 s.2.2.2.2.2.2.2.2.2.1 s.2.2.2.2.2.2.2.2.2.2.1 s.2.2.2.2.2.2.2.2.2.2.2.1 s.2.2.2.2.2.2.2.2.2.2.2.2.1 s.2.2.2.2.2.2.2.2.2.2.2.2.2.1 s.2.2.2.2.2.2.2.2.2.2.2.2.2.2) (fun s => μ s.1 s.2.1 s.2.2.1 s.2.2.2.1 s.2.2.2.2.1 s.2.2.2.2.2.1 s.2.2.2.2.2.2.1 s.2.2.2.2.2.2.2.1 s.2.2.2.2.2.2.2.2.1 s.2.2.2.2.2.2.2.2.2.1 s.2.2.2.2.2.2.2.2.2.2.1 s.2.2.2.2.2.2.2.2.2.2.2.1 s.2.2.2.2.2.2.2.2.2.2.2.2.1 s.2.2.2.2.2.2.2.2.2.2.2.2.2.1 s.2.2.2.2.2.2.2.2.2.2.2.2.2.2) (fun n s hI hk => hs n s.1 s.2.1 s.2.2.1 s.2.2.2.1 s.2.2.2.2.1 s.2.2.2.2.2.1 s.2.2.2.2.2.2.1 s.2.2.2.2.2.2.2.1 s.2.2.2.2.2.2.2.2.1 s.2.2.2.2.2.2.2.2.2.1 s.2.2.2.2.2.2.2.2.2.2.1 s.2.2.2.2.2.2.2.2.2.2.2.1 s.2.2.2.2.2.2.2.2.2.2.2.2.1 s.2.2.2.2.2.2.2.2.2.2.2.2.2.1 s.2.2.2.2.2.2.2.2.2.2.2.2.2.2 hI (fun b1 b2 b3 b4 b5 b6 b7 b8 b9 b10 b11 b12 b13 b14 b15 h9 hm => hk (b1, b2, b3, b4, b5, b6, b7, b8, b9, b10, b11, b12, b13, b14, b15) h9 hm)) (a1, a2, a3, a4, a5, a6, a7, a8, a9, a10, a11, a12, a13, a14, a15) h
theorem lp16 {A1 A2 A3 A4 A5 A6 A7 A8 A9 A10 A11 A12 A13 A14 A15 A16 : Type} (W : Nat → A1 → A2 → A3 → A4 → A5 → A6 → A7 → A8 → A9 → A10 → A11 → A12 → A13 → A14 → A15 → A16 → Prop) (I : A1 → A2 → A3 → A4 → A5 → A6 → A7 → A8 → A9 → A10 → A11 → A12 → A13 → A14 → A15 → A16 → Prop) (μ : A1 → A2 → A3 → A4 → A5 → A6 → A7 → A8 → A9 → A10 → A11 → A12 → A13 → A14 → A15 → A16 → Nat) (hs : ∀ (n : Nat) (a1 : A1) (a2 : A2) (a3 : A3) (a4 : A4) (a5 : A5) (a6 : A6) (a7 : A7) (a8 : A8) (a9 : A9) (a10 : A10) (a11 : A11) (a12 : A12) (a13 : A13) (a14 : A14) (a15 : A15) (a16 : A16), I a1 a2 a3 a4 a5 a6 a7 a8 a9 a10 a11 a12 a13 a14 a15 a16 → (∀ (b1 : A1) (b2 : A2) (b3 : A3) (b4 : A4) (b5 : A5) (b6 : A6) (b7 : A7) (b8 : A8) (b9 : A9) (b10 : A10) (b11 : A11) (b12 : A12) (b13 : A13) (b14 : A14) (b15 : A15) (b16 : A16), I b1 b2 b3 b4 b5 b6 b7 b8 b9 b10 b11 b12 b13 b14 b15 b16 → μ b1 b2 b3 b4 b5 b6 b7 b8 b9 b10 b11 b12 b13 b14 b15 b16 < μ a1 a2 a3 a4 a5 a6 a7 a8 a9 a10 a11 a12 a13 a14 a15 a16 → W n b1 b2 b3 b4 b5 b6 b7 b8 b9 b10 b11 b12 b13 b14 b15 b16) → W (n + 1) a1 a2 a3 a4 a5 a6 a7 a8 a9 a10 a11 a12 a13 a14 a15 a16) (a1 : A1) (a2 : A2) (a3 : A3) (a4 : A4) (a5 : A5) (a6 : A6) (a7 : A7) (a8 : A8) (a9 : A9) (a10 : A10) (a11 : A11) (a12 : A12) (a13 : A13) (a14 : A14) (a15 : A15) (a16 : A16) (h : I a1 a2 a3 a4 a5 a6 a7 a8 a9 a10 a11 a12 a13 a14 a15 a16) : ∃ n, W n a1 a2 a3 a4 a5 a6 a7 a8 a9 a10 a11 a12 a13 a14 a15 a16 :=
  loop_m (σ := A1 × A2 × A3 × A4 × A5 × A6 × A7 × A8 × A9 × A10 × A11 × A12 × A13 × A14 × A15 × A16) (fun n s => W n s.1 s.2.1 s.2.2.1 s.2.2.2.1 s.2.2.2.2.1 s.2.2.2.2.2.1 s.2.2.2.2.2.2.1 s.2.2.2.2.2.2.2.1 s.2.2.2.2.2.2.2.2.1 s.2.2.2.2.2.2.2.2.2.1 s.2.2.2.2.2.2.2.2.2.2.1 s.2.2.2.2.2.2.2.2.2.2.2.1 s.2.2.2.2.2.2.2.2.2.2.2.2.1 s.2.2.2.2.2.2.2.2.2.2.2.2.2.1 s.2.2.2.2.2.2.2.2.2.2.2.2.2.2.1 s.2.2.2.2.2.2.2.2.2.2.2.2.2.2.2) (fun s => I s.1 s.2.1 s.2.2.1 s.2.2.2.1 s.2.2.2.2.1 s.2.2.2.2.2.1 s.2.2.2.2.2.2.1 s.2.2.2.2.2.2.2.1 s.2.2.2.2.2.2.2.2.1 s.2.2.2.2.2.2.2.2.2.1 s.2.2.2.2.2.2.2.2.2.2.1 s.2.2.2.2.2.2.2.2.2.2.2.1 s.2.2.2.2.2.2.2.2.2.2.2.2.1 s.2.2.2.2.2.2.2.2.2.2.2.2.2.1 s.2.2.2.2.2.2.2.2.2.2.2.2.2.2.1 s.2.2.2.2.2.2.2.2.2.2.2.2.2.2.2) (fun s => μ s.1 s.2.1 s.2.2.1 s.2.2.2.1 s.2.2.2.2.1 s.2.2.2.2.2.1 s.2.2.2.2.2.2.1 s.2.2.2.2.2.2.2.1 s.2.2.2.2.2.2.2.2.1 s.2.2.2.2.2.2.2.2.2.1 s.2.2.2.2.2.2.2.2.2.2.1 s.2.2.2.2.2.2.2.2.2.2.2.1 s.2.2.2.2.2.2.2.2.2.2.2.2.1 s.2.2.2.2.2.2.2.2.2.2.2.2.2.1 s.2.2.2.2.2.2.2.2.2.2.2.2.2.2.1 s.2.2.2.2.2.2.2.2.2.2.2.2.2.2.2) (fun n s hI hk => hs n s.1 s.2.1 s.2.2.1 s.2.2.2.1 s.2.2.2.2.1 s.2.2.2.2.2.1 s.2.2.2.2.2.2.1 s.2.2.2.2.2.2.2.1 s.2.2.2.2.2.2.2.2.1 s.2.2.2.2.2.2.2.2.2.1 s.2.2.2.2.2.2.2.2.2.2.1 s.2.2.2.2.2.2.2.2.2.2.2.1 s.2.2.2.2.2.2.2.2.2.2.2.2.1 s.2.2.2.2.2.2.2.2.2.2.2.2.2.1 s.2.2.2.2.2.2.2.2.2.2.2.2.2.2.1 s.2.2.2.2.2.2.2.2.2.2.2.2.2.2.2 hI (fun b1 b2 b3 b4 b5 b6 b7 b8 b9 b10 b11 b12 b13 b14 b15 b16 h9 hm => hk (b1, b2, b3, b4, b5, b6, b7, b8, b9, b10, b11, b12, b13, b14, b15, b16) h9 hm)) (a1, a2, a3, a4, a5, a6, a7, a8, a9, a10, a11, a12, a13, a14, a15, a16) h
theorem pk_least (P : Nat → Prop) (h : ∃ k, P k) : ∃ k, P k ∧ ∀ j, j < k → ¬ P j := by
  obtain ⟨k, hk⟩ := h
  induction k using Nat.strongRecOn with
  | ind k ih =>
    by_cases e : ∃ j, j < k ∧ P j
    · obtain ⟨j, hj, pj⟩ := e
      exact ih j hj pj
    · exact ⟨k, hk, fun j hj pj => e ⟨j, hj, pj⟩⟩
theorem rp1 {ρ A1 : Type} (W : Nat → (ρ → Prop) → A1 → Prop) (ok : A1 → Prop) (μ : A1 → Nat) (val : A1 → ρ)
    (hs : ∀ (d : Nat) (post : ρ → Prop) (a1 : A1), ok a1 → post (val a1) → (∀ (post' : ρ → Prop) (b1 : A1), ok b1 → μ b1 < μ a1 → post' (val b1) → W d post' b1) → W (d + 1) post a1) :
    ∀ (d : Nat) (post : ρ → Prop) (a1 : A1), ok a1 → μ a1 < d → post (val a1) → W d post a1 := by
  intro d
  induction d with
  | zero => intro post a1 _ h; omega
  | succ d ih =>
    intro post a1 ho hm hp
    exact hs d post a1 ho hp (fun post' b1 ho' hm' hp' => ih post' b1 ho' (by omega) hp')
theorem rp2 {ρ A1 A2 : Type} (W : Nat → (ρ → Prop) → A1 → A2 → Prop) (ok : A1 → A2 → Prop) (μ : A1 → A2 → Nat) (val : A1 → A2 → ρ)
    (hs : ∀ (d : Nat) (post : ρ → Prop) (a1 : A1) (a2 : A2), ok a1 a2 → post (val a1 a2) → (∀ (post' : ρ → Prop) (b1 : A1) (b2 : A2), ok b1 b2 → μ b1 b2 < μ a1 a2 → post' (val b1 b2) → W d post' b1 b2) → W (d + 1) post a1 a2) :
    ∀ (d : Nat) (post : ρ → Prop) (a1 : A1) (a2 : A2), ok a1 a2 → μ a1 a2 < d → post (val a1 a2) → W d post a1 a2 := by
  intro d
  induction d with
  | zero => intro post a1 a2 _ h; omega
  | succ d ih =>
    intro post a1 a2 ho hm hp
    exact hs d post a1 a2 ho hp (fun post' b1 b2 ho' hm' hp' => ih post' b1 b2 ho' (by omega) hp')
theorem rp3 {ρ A1 A2 A3 : Type} (W : Nat → (ρ → Prop) → A1 → A2 → A3 → Prop) (ok : A1 → A2 → A3 → Prop) (μ : A1 → A2 → A3 → Nat) (val : A1 → A2 → A3 → ρ)
    (hs : ∀ (d : Nat) (post : ρ → Prop) (a1 : A1) (a2 : A2) (a3 : A3), ok a1 a2 a3 → post (val a1 a2 a3) → (∀ (post' : ρ → Prop) (b1 : A1) (b2 : A2) (b3 : A3), ok b1 b2 b3 → μ b1 b2 b3 < μ a1 a2 a3 → post' (val b1 b2 b3) → W d post' b1 b2 b3) → W (d + 1) post a1 a2 a3) :
    ∀ (d : Nat) (post : ρ → Prop) (a1 : A1) (a2 : A2) (a3 : A3), ok a1 a2 a3 → μ a1 a2 a3 < d → post (val a1 a2 a3) → W d post a1 a2 a3 := by
  intro d
  induction d with
  | zero => intro post a1 a2 a3 _ h; omega
  | succ d ih =>
    intro post a1 a2 a3 ho hm hp
    exact hs d post a1 a2 a3 ho hp (fun post' b1 b2 b3 ho' hm' hp' => ih post' b1 b2 b3 ho' (by omega) hp')
theorem rp4 {ρ A1 A2 A3 A4 : Type} (W : Nat → (ρ → Prop) → A1 → A2 → A3 → A4 → Prop) (ok : A1 → A2 → A3 → A4 → Prop) (μ : A1 → A2 → A3 → A4 → Nat) (val : A1 → A2 → A3 → A4 → ρ)
    (hs : ∀ (d : Nat) (post : ρ → Prop) (a1 : A1) (a2 : A2) (a3 : A3) (a4 : A4), ok a1 a2 a3 a4 → post (val a1 a2 a3 a4) → (∀ (post' : ρ → Prop) (b1 : A1) (b2 : A2) (b3 : A3) (b4 : A4), ok b1 b2 b3 b4 → μ b1 b2 b3 b4 < μ a1 a2 a3 a4 → post' (val b1 b2 b3 b4) → W d post' b1 b2 b3 b4) → W (d + 1) post a1 a2 a3 a4) :
    ∀ (d : Nat) (post : ρ → Prop) (a1 : A1) (a2 : A2) (a3 : A3) (a4 : A4), ok a1 a2 a3 a4 → μ a1 a2 a3 a4 < d → post (val a1 a2 a3 a4) → W d post a1 a2 a3 a4 := by
  intro d
  induction d with
  | zero => intro post a1 a2 a3 a4 _ h; omega
  | succ d ih =>
    intro post a1 a2 a3 a4 ho hm hp
    exact hs d post a1 a2 a3 a4 ho hp (fun post' b1 b2 b3 b4 ho' hm' hp' => ih post' b1 b2 b3 b4 ho' (by omega) hp')
theorem rp5 {ρ A1 A2 A3 A4 A5 : Type} (W : Nat → (ρ → Prop) → A1 → A2 → A3 → A4 → A5 → Prop) (ok : A1 → A2 → A3 → A4 → A5 → Prop) (μ : A1 → A2 → A3 → A4 → A5 → Nat) (val : A1 → A2 → A3 → A4 → A5 → ρ)
    (hs : ∀ (d : Nat) (post : ρ → Prop) (a1 : A1) (a2 : A2) (a3 : A3) (a4 : A4) (a5 : A5), ok a1 a2 a3 a4 a5 → post (val a1 a2 a3 a4 a5) → (∀ (post' : ρ → Prop) (b1 : A1) (b2 : A2) (b3 : A3) (b4 : A4) (b5 : A5), ok b1 b2 b3 b4 b5 → μ b1 b2 b3 b4 b5 < μ a1 a2 a3 a4 a5 → post' (val b1 b2 b3 b4 b5) → W d post' b1 b2 b3 b4 b5) → W (d + 1) post a1 a2 a3 a4 a5) :
    ∀ (d : Nat) (post : ρ → Prop) (a1 : A1) (a2 : A2) (a3 : A3) (a4 : A4) (a5 : A5), ok a1 a2 a3 a4 a5 → μ a1 a2 a3 a4 a5 < d → post (val a1 a2 a3 a4 a5) → W d post a1 a2 a3 a4 a5 := by
  intro d
  induction d with
  | zero => intro post a1 a2 a3 a4 a5 _ h; omega
  | succ d ih =>
    intro post a1 a2 a3 a4 a5 ho hm hp
    exact hs d post a1 a2 a3 a4 a5 ho hp (fun post' b1 b2 b3 b4 b5 ho' hm' hp' => ih post' b1 b2 b3 b4 b5 ho' (by omega) hp')
theorem rp6 {ρ A1 A2 A3 A4 A5 A6 : Type} (W : Nat → (ρ → Prop) → A1 → A2 → A3 → A4 → A5 → A6 → Prop) (ok : A1 → A2 → A3 → A4 → A5 → A6 → Prop) (μ : A1 → A2 → A3 → A4 → A5 → A6 → Nat) (val : A1 → A2 → A3 → A4 → A5 → A6 → ρ)
    (hs : ∀ (d : Nat) (post : ρ → Prop) (a1 : A1) (a2 : A2) (a3 : A3) (a4 : A4) (a5 : A5) (a6 : A6), ok a1 a2 a3 a4 a5 a6 → post (val a1 a2 a3 a4 a5 a6) → (∀ (post' : ρ → Prop) (b1 : A1) (b2 : A2) (b3 : A3) (b4 : A4) (b5 : A5) (b6 : A6), ok b1 b2 b3 b4 b5 b6 → μ b1 b2 b3 b4 b5 b6 < μ a1 a2 a3 a4 a5 a6 → post' (val b1 b2 b3 b4 b5 b6) → W d post' b1 b2 b3 b4 b5 b6) → W (d + 1) post a1 a2 a3 a4 a5 a6) :
    ∀ (d : Nat) (post : ρ → Prop) (a1 : A1) (a2 : A2) (a3 : A3) (a4 : A4) (a5 : A5) (a6 : A6), ok a1 a2 a3 a4 a5 a6 → μ a1 a2 a3 a4 a5 a6 < d → post (val a1 a2 a3 a4 a5 a6) → W d post a1 a2 a3 a4 a5 a6 := by
  intro d
  induction d with
  | zero => intro post a1 a2 a3 a4 a5 a6 _ h; omega
  | succ d ih =>
    intro post a1 a2 a3 a4 a5 a6 ho hm hp
    exact hs d post a1 a2 a3 a4 a5 a6 ho hp (fun post' b1 b2 b3 b4 b5 b6 ho' hm' hp' => ih post' b1 b2 b3 b4 b5 b6 ho' (by omega) hp')
theorem rec_p {σ ρ : Type} (W : Nat → (ρ → Prop) → σ → Prop) (ok : σ → Prop) (μ : σ → Nat) (val : σ → ρ)
    (hs : ∀ d s post, ok s → post (val s) → (∀ s' post', ok s' → μ s' < μ s → post' (val s') → W d post' s') → W (d + 1) post s) :
    ∀ d s post, ok s → μ s < d → post (val s) → W d post s := by
  intro d
  induction d with
  | zero => intro s post _ h; omega
  | succ d ih =>
    intro s post ho hm hp
    exact hs d s post ho hp (fun s' post' ho' hm' hp' => ih s' post' ho' (by omega) hp')
theorem rec_q {σ ρ : Type} (W : Nat → (ρ → Prop) → σ → Prop) (ok : σ → Prop) (μ : σ → Nat) (Q : σ → ρ → Prop)
    (hs : ∀ d s post, ok s → (∀ r, Q s r → post r) → (∀ s' post', ok s' → μ s' < μ s → (∀ r, Q s' r → post' r) → W d post' s') → W (d + 1) post s) :
    ∀ d s post, ok s → μ s < d → (∀ r, Q s r → post r) → W d post s := by
  intro d
  induction d with
  | zero => intro s post _ h; omega
  | succ d ih =>
    intro s post ho hm hp
    exact hs d s post ho hp (fun s' post' ho' hm' hp' => ih s' post' ho' (by omega) hp')
def bx_sum (f : Nat → Int32) : Nat → Int32
  | 0 => 0
  | n + 1 => bx_sum f n + f n
theorem ek_u {A : Prop} {B : Nat → Prop} {k N : Nat} (hk : k < N) (h : B k) : (some k = none → A) ∧ (∀ y : Nat, some k = some y → (y < N ∧ B y)) :=
  ⟨fun z => absurd z (Option.some_ne_none k), fun _ e => (by cases e; exact ⟨hk, h⟩)⟩
theorem ek_nu {A : Prop} {B : Nat → Prop} (h : A) : ((none : Option Nat) = none → A) ∧ (∀ y : Nat, (none : Option Nat) = some y → B y) :=
  ⟨fun _ => h, fun _ e => (by cases e)⟩
theorem ek_if {c d A B : Prop} (e : c ↔ d) (f : d → A) (g : ¬ d → B) : (c → A) ∧ (¬ c → B) :=
  ⟨fun z => f (e.mp z), fun z => g (fun y => z (e.mpr y))⟩
theorem ek_v {α : Sort _} {P : α → Prop} {a b : α} (e : a = b) (h : P b) : P a := e ▸ h
theorem co_some {x : Option Nat} {A : Prop} {B : Nat → Prop} (i : Nat) (h : B i) (hx : x = some i := by rfl) : (x = none → A) ∧ (∀ y : Nat, x = some y → B y) := by
  subst hx
  exact ⟨fun e => (nomatch e), fun y e => Option.some.inj e ▸ h⟩
theorem co_none {x : Option Nat} {A : Prop} {B : Nat → Prop} (h : A) (hx : x = none := by rfl) : (x = none → A) ∧ (∀ y : Nat, x = some y → B y) := by
  subst hx
  exact ⟨fun _ => h, fun y e => (nomatch e)⟩
theorem co_any {x : Option Nat} {A : Prop} {B : Nat → Prop} (hn : x = none → A) (hs : ∀ i : Nat, x = some i → B i) : (x = none → A) ∧ (∀ y : Nat, x = some y → B y) := ⟨hn, hs⟩
theorem co_2 {P : Nat → Prop} (h0 : P 0) (h1 : P 1) {i : Nat} (hi : i < 2) : P i :=
  match i, hi with
  | 0, _ => h0
  | 1, _ => h1
theorem co_3 {P : Nat → Prop} (h0 : P 0) (h1 : P 1) (h2 : P 2) {i : Nat} (hi : i < 3) : P i :=
  match i, hi with
  | 0, _ => h0
  | 1, _ => h1
  | 2, _ => h2
theorem co_4 {P : Nat → Prop} (h0 : P 0) (h1 : P 1) (h2 : P 2) (h3 : P 3) {i : Nat} (hi : i < 4) : P i :=
  match i, hi with
  | 0, _ => h0
  | 1, _ => h1
  | 2, _ => h2
  | 3, _ => h3
theorem co_dec {N : Nat} {P : Nat → Prop} [DecidablePred P] (h : (List.range N).all (fun i => decide (P i)) = true) {i : Nat} (hi : i < N) : P i := by
  have := List.all_eq_true.mp h i (List.mem_range.mpr hi)
  exact of_decide_eq_true this
theorem co_tab {α : Type} {l : List α} {d : α} {P : α → Prop} (h : ∀ a, a ∈ l → P a) {i : Nat} (hi : i < l.length) : P (l.getD i d) := by
  rw [List.getD_eq_getElem?_getD, List.getElem?_eq_getElem hi]
  exact h _ (List.getElem_mem hi)
theorem pk_mu {x : Int32} {L : Nat} (h0 : ¬ x < 0) (h : ¬ nI L ≤ x) (hL : L < 2 ^ 31) : ∃ j : Nat, j < L ∧ x = nI j ∧ x + 1 = nI (j + 1) ∧ x.toNatClampNeg = j ∧ L - (x + 1).toNatClampNeg < L - x.toNatClampNeg := by
  obtain ⟨j, hj, rfl⟩ := nI_of h0
  have hl : j < L := Nat.not_le.mp fun q => h (nI_le q hj)
  refine ⟨j, hl, rfl, nI_1 j, nI_clamp hj, ?_⟩
  rw [nI_1, nI_clamp (by omega), nI_clamp hj]
  omega
theorem op_s {α : Type} {r : Option α} {A : Prop} {B : α → Prop} {y : α} (h : r = some y) (b : B y) : (r = none → A) ∧ ∀ z, r = some z → B z :=
  ⟨fun e => (by rw [h] at e; cases e), fun z e => (by rw [h] at e; cases e; exact b)⟩
def l_holds {α : Type} (a : Nat → Option Nat) (LP : List Nat) (p : Nat → α) (c : Nat) (b : Nat → α) : Prop :=
  ∀ j, j < c → ∃ y, a j = some y ∧ y ∈ LP ∧ p y = b j
theorem l_holds_0 {α : Type} {a : Nat → Option Nat} {LP : List Nat} {p b : Nat → α} : l_holds a LP p 0 b := fun j h => absurd h (Nat.not_lt_zero j)
theorem l_in_new (LP : List Nat) (q : Nat) : q ∈ LP ++ [q] := List.mem_append.mpr (Or.inr (List.mem_singleton.mpr rfl))
def l_sum (b : Nat → Int32) : Nat → Int32
  | 0 => 0
  | k + 1 => l_sum b k + b k
theorem sb_shr0 (x : Int32) : x >>> ((0 : Int32) &&& 31) = x := by
  rw [show ((0 : Int32) &&& 31) = 0 by decide]
  simp
theorem sb_shl0 (x : Int32) : x <<< ((0 : Int32) &&& 31) = x := by
  rw [show ((0 : Int32) &&& 31) = 0 by decide]
  simp
theorem sb_cl0 : (0 : Int32).toNatClampNeg = 0 := by decide
theorem sb_m1 {p : Nat} (h : 0 < p) : nI p + (-1) = nI (p - 1) := by
  obtain ⟨q, rfl⟩ : ∃ q, p = q + 1 := ⟨p - 1, by omega⟩
  exact pk_m1 q
def sb_b (c : Nat) : Int32 := (nI c).toInt8.toInt32
theorem sb_byte : ∀ c, c < 256 → sb_b c &&& 255 = nI c ∧ ((nI c).toUInt32 % 65536).toInt32 = nI c ∧ nI c ≤ 255 := by decide +kernel
def sb_Fit (a : Nat → Int32) : Prop := ∀ j, fits .byte (.int (a j)) = true
def sb_Lat (t : Nat → Nat) (n : Nat) (a : Nat → Int32) : Prop := ∀ j, j < n → t j < 256 ∧ a j = sb_b (t j)
theorem sb_fitB (c : Nat) : fits .byte (.int (sb_b c)) = true := pk_fb _
theorem sb_fit0 : sb_Fit (fun _ => 0) := fun _ => by
  show fits .byte (.int 0) = true
  decide
theorem sb_fitU {a : Nat → Int32} {k : Nat} {x : Int32} (h : sb_Fit a) (hx : fits .byte (.int x) = true) : sb_Fit (upd a k x) := by
  intro j
  by_cases e : j = k
  · subst e
    rw [pk_us]
    exact hx
  · rw [pk_un e]
    exact h j
def sb_cat (t : Nat → Nat) (n : Nat) (s : Nat → Nat) : Nat → Nat := fun j => if j < n then t j else s (j - n)
theorem sb_cat_lo {t s : Nat → Nat} {n j : Nat} (h : j < n) : sb_cat t n s j = t j := if_pos h
theorem sb_cat_hi {t s : Nat → Nat} {n j : Nat} : sb_cat t n s (n + j) = s j := by
  show (if n + j < n then t (n + j) else s (n + j - n)) = s j
  rw [if_neg (by omega), Nat.add_sub_cancel_left]
theorem sb_latPut {t s : Nat → Nat} {n w : Nat} {a a' : Nat → Int32} (h : sb_Lat t n a) (hk : ∀ j, j < n → a' j = a j) (hs : ∀ i, i < w → s i < 256 ∧ a' (n + i) = sb_b (s i)) : sb_Lat (sb_cat t n s) (n + w) a' := by
  intro j hj
  by_cases e : j < n
  · rw [sb_cat_lo e, hk j e]
    exact h j e
  · obtain ⟨i, rfl⟩ : ∃ i, j = n + i := ⟨j - n, by omega⟩
    rw [sb_cat_hi]
    exact hs i (by omega)
theorem sb_latKeep {t : Nat → Nat} {n : Nat} {a a' : Nat → Int32} (h : sb_Lat t n a) (hk : ∀ j, j < n → a' j = a j) : sb_Lat t n a' := fun j hj => by
  rw [hk j hj]
  exact h j hj
def sb_cap (q m : Nat) : Nat := if q ≤ m then m else if 2 * m + 2 < q then q else 2 * m + 2
def sb_Room (q m mc ms : Nat) : Prop := q ≤ m ∨ (1 ≤ mc ∧ sb_cap q m ≤ ms ∧ sb_cap q m ≤ 65536)
theorem sb_cap_ge (q m : Nat) : q ≤ sb_cap q m := by
  unfold sb_cap
  split
  · omega
  · split <;> omega
theorem sb_cap_gem (q m : Nat) : m ≤ sb_cap q m := by
  unfold sb_cap
  split
  · omega
  · split <;> omega
theorem sb_cap_le {q m mc ms : Nat} (hm : m ≤ 65536) (hr : sb_Room q m mc ms) : sb_cap q m ≤ 65536 := by
  rcases hr with h | h
  · rw [sb_cap, if_pos h]
    exact hm
  · exact h.2.2
theorem sb_at {P : Int32 → Prop} {x y : Int32} (e : x = y) (h : P y) : P x := e ▸ h
def sb_dg (w : Nat) : Nat := if w < 10 then 1 else if w < 100 then 2 else if w < 1000 then 3 else if w < 10000 then 4 else if w < 100000 then 5 else if w < 1000000 then 6 else if w < 10000000 then 7 else if w < 100000000 then 8 else if w < 1000000000 then 9 else 10
def sb_dec (v : Nat) : Nat → Nat := fun i => 48 + v / 10 ^ (sb_dg v - 1 - i) % 10
theorem sb_dg_in (w : Nat) : 1 ≤ sb_dg w ∧ sb_dg w ≤ 10 := by
  unfold sb_dg
  constructor <;> (repeat' split) <;> omega
theorem sb_dg100 {w : Nat} (h : 100 ≤ w) (hw : w < 2 ^ 31) : sb_dg w = sb_dg (w / 100) + 2 := by
  rw [sb_dg, sb_dg, if_neg (show ¬ w < 10 by omega), if_neg (show ¬ w < 100 by omega)]
  by_cases h3 : w < 1000
  · rw [if_pos h3, if_pos (show w / 100 < 10 by omega)]
  rw [if_neg h3, if_neg (show ¬ w / 100 < 10 by omega)]
  by_cases h4 : w < 10000
  · rw [if_pos h4, if_pos (show w / 100 < 100 by omega)]
  rw [if_neg h4, if_neg (show ¬ w / 100 < 100 by omega)]
  by_cases h5 : w < 100000
  · rw [if_pos h5, if_pos (show w / 100 < 1000 by omega)]
  rw [if_neg h5, if_neg (show ¬ w / 100 < 1000 by omega)]
  by_cases h6 : w < 1000000
  · rw [if_pos h6, if_pos (show w / 100 < 10000 by omega)]
  rw [if_neg h6, if_neg (show ¬ w / 100 < 10000 by omega)]
  by_cases h7 : w < 10000000
  · rw [if_pos h7, if_pos (show w / 100 < 100000 by omega)]
  rw [if_neg h7, if_neg (show ¬ w / 100 < 100000 by omega)]
  by_cases h8 : w < 100000000
  · rw [if_pos h8, if_pos (show w / 100 < 1000000 by omega)]
  rw [if_neg h8, if_neg (show ¬ w / 100 < 1000000 by omega)]
  by_cases h9 : w < 1000000000
  · rw [if_pos h9, if_pos (show w / 100 < 10000000 by omega)]
  rw [if_neg h9, if_neg (show ¬ w / 100 < 10000000 by omega)]
  rw [if_pos (show w / 100 < 100000000 by omega)]
theorem sb_negT {w : Nat} (h : w < 2 ^ 31) : (-nI w).toInt = -(w : Int) := by
  rw [Int32.toInt_neg, nI_toInt h]
  exact Int.bmod_eq_of_le (by omega) (by omega)
theorem sb_nle {a b : Nat} (ha : a < 2 ^ 31) (hb : b < 2 ^ 31) : -nI a ≤ -nI b ↔ b ≤ a := by
  rw [Int32.le_iff_toInt_le, sb_negT ha, sb_negT hb]
  omega
theorem sb_nlt {a b : Nat} (ha : a < 2 ^ 31) (hb : b < 2 ^ 31) : -nI a < -nI b ↔ b < a := by
  rw [Int32.lt_iff_toInt_lt, sb_negT ha, sb_negT hb]
  omega
theorem sb_cmp {A B : Prop} {x : Int32} (v c : Nat) (f : c ≤ v → A) (g : v < c → B) (hv : v < 2 ^ 31) (hx : x = -nI c := by rfl) (hc : c < 2 ^ 31 := by omega) : (-nI v ≤ x → A) ∧ (¬ -nI v ≤ x → B) := by
  subst hx
  rw [sb_nle hv hc]
  exact ⟨f, fun z => g (by omega)⟩
theorem sb_ndiv {w : Nat} (hw : w < 2 ^ 31) : (-nI w) / 100 = -nI (w / 100) := by
  apply Int32.toInt_inj.mp
  have h100 : (100 : Int32).toInt = 100 := by decide
  rw [Int32.toInt_div, sb_negT hw, h100, sb_negT (by omega), Int.neg_tdiv, Int.tdiv_eq_ediv_of_nonneg (by omega), Int.bmod_eq_of_le (by omega) (by omega)]
  omega
theorem sb_nrem {w : Nat} (hw : w < 2 ^ 31) : (-nI (w / 100)) * 100 - (-nI w) = nI (w % 100) := by
  have h := pk_rem (a := w) (d := 100) hw (by decide) (by decide)
  rw [pk_div hw (by decide) (by decide)] at h
  rw [← h]
  show (-nI (w / 100)) * nI 100 - (-nI w) = nI w - nI (w / 100) * nI 100
  rw [Int32.neg_mul, Int32.sub_neg, Int32.add_comm, ← Int32.sub_eq_add_neg]
end
section
-- the stack of open blocks before statement i: (opener, its last sibling boundary so far), the innermost first
def sk_el (i : Nat) : List (Nat × Nat) → List (Nat × Nat)
  | [] => []
  | e :: r => (e.1, i) :: r
def sk_st (K : Nat → Nat) : Nat → List (Nat × Nat)
  | 0 => []
  | i + 1 => if K i = 8 ∨ K i = 10 then (i, i) :: sk_st K i else if K i = 9 then sk_el i (sk_st K i) else if K i = 11 then (sk_st K i).tail else sk_st K i
theorem sk_s8 {K : Nat → Nat} {i : Nat} (h : K i = 8 ∨ K i = 10) : sk_st K (i + 1) = (i, i) :: sk_st K i := by
  simp only [sk_st, if_pos h]
theorem sk_s9 {K : Nat → Nat} {i : Nat} (h : K i = 9) : sk_st K (i + 1) = sk_el i (sk_st K i) := by
  have h8 : ¬ (K i = 8 ∨ K i = 10) := by omega
  simp only [sk_st, if_neg h8, if_pos h]
theorem sk_s11 {K : Nat → Nat} {i : Nat} (h : K i = 11) : sk_st K (i + 1) = (sk_st K i).tail := by
  have h8 : ¬ (K i = 8 ∨ K i = 10) := by omega
  have h9 : ¬ K i = 9 := by omega
  simp only [sk_st, if_neg h8, if_neg h9, if_pos h]
theorem sk_sn {K : Nat → Nat} {i : Nat} (h8 : ¬ (K i = 8 ∨ K i = 10)) (h9 : ¬ K i = 9) (h : ¬ K i = 11) : sk_st K (i + 1) = sk_st K i := by
  simp only [sk_st, if_neg h8, if_neg h9, if_neg h]
def sk_ok (K : Nat → Nat) (i : Nat) : Prop :=
  ((K i = 8 ∨ K i = 10) → (sk_st K i).length < 3) ∧ (K i = 9 → ∃ o r, sk_st K i = (o, o) :: r ∧ K o = 8) ∧ (K i = 11 → ∃ o p r, sk_st K i = (o, p) :: r)
def sk_oks (K : Nat → Nat) (n : Nat) : Prop := ∀ i, i < n → sk_ok K i
def sk_snd (K : Nat → Nat) (n : Nat) : Prop := sk_oks K n ∧ sk_st K n = []
theorem sk_oks_le {K : Nat → Nat} {n m : Nat} (h : sk_oks K n) (hm : m ≤ n) : sk_oks K m := fun i hi => h i (by omega)
theorem sk_oks_s {K : Nat → Nat} {n : Nat} (h : sk_oks K n) (hm : sk_ok K n) : sk_oks K (n + 1) := by
  intro i hi
  by_cases e : i = n
  · subst e; exact hm
  · exact h i (by omega)
theorem sk_len3 {K : Nat → Nat} : ∀ i, sk_oks K i → (sk_st K i).length ≤ 3 := by
  intro i
  induction i with
  | zero => intro _; simp [sk_st]
  | succ i ih =>
    intro h
    have hi := ih (sk_oks_le h (by omega))
    have hk := h i (by omega)
    by_cases h8 : K i = 8 ∨ K i = 10
    · rw [sk_s8 h8]; have := hk.1 h8; simp only [List.length_cons]; omega
    by_cases h9 : K i = 9
    · obtain ⟨o, r, h1, h2⟩ := hk.2.1 h9
      rw [sk_s9 h9]; rw [h1] at hi ⊢; simpa [sk_el] using hi
    by_cases h11 : K i = 11
    · rw [sk_s11 h11, List.length_tail]; omega
    · rw [sk_sn h8 h9 h11]; exact hi
def sk_top (K : Nat → Nat) (i o p : Nat) (r : List (Nat × Nat)) : Prop :=
  o < i ∧ (K o = 8 ∨ K o = 10) ∧ sk_st K o = r ∧ (∀ k, o < k → k ≤ i → r.length < (sk_st K k).length) ∧ ((p = o ∧ ∀ k, o < k → k < i → K k = 9 → ∀ p' r', sk_st K k ≠ (o, p') :: r') ∨ (o < p ∧ p < i ∧ K p = 9 ∧ K o = 8 ∧ sk_st K p = (o, o) :: r))
theorem sk_inv {K : Nat → Nat} : ∀ i, sk_oks K i → ∀ o p r, sk_st K i = (o, p) :: r → sk_top K i o p r := by
  intro i
  induction i using Nat.strongRecOn with
  | ind i ih =>
  intro hok o p r hs
  cases i with
  | zero => simp [sk_st] at hs
  | succ i =>
  have hi := hok i (by omega)
  have hok' : sk_oks K i := sk_oks_le hok (by omega)
  by_cases h8 : K i = 8 ∨ K i = 10
  · rw [sk_s8 h8] at hs
    injection hs with h1 h2
    injection h1 with h3 h4
    subst h3 h4 h2
    refine ⟨by omega, h8, rfl, ?_, Or.inl ⟨rfl, ?_⟩⟩
    · intro k h1 h2
      have e : k = i + 1 := by omega
      subst e; rw [sk_s8 h8]; simp
    · intro k h1 h2; omega
  by_cases h9 : K i = 9
  · obtain ⟨o', r', h1, h2⟩ := hi.2.1 h9
    have T := ih i (by omega) hok' o' o' r' h1
    rw [sk_s9 h9, h1] at hs
    simp only [sk_el] at hs
    injection hs with h3 h4
    injection h3 with h5 h6
    subst h5 h6 h4
    obtain ⟨a1, a2, a3, a4, a5⟩ := T
    refine ⟨by omega, a2, a3, ?_, Or.inr ⟨a1, by omega, h9, h2, h1⟩⟩
    intro k hk1 hk2
    by_cases hk : k = i + 1
    · subst hk; rw [sk_s9 h9, h1]; simp [sk_el]
    · exact a4 k hk1 (by omega)
  by_cases h11 : K i = 11
  · obtain ⟨o', p', r', h1⟩ := hi.2.2 h11
    have T := ih i (by omega) hok' o' p' r' h1
    rw [sk_s11 h11, h1] at hs
    simp only [List.tail_cons] at hs
    subst hs
    obtain ⟨a1, a2, a3, a4, a5⟩ := T
    have T2 := ih o' (by omega) (sk_oks_le hok (by omega)) o p r a3
    obtain ⟨b1, b2, b3, b4, b5⟩ := T2
    refine ⟨by omega, b2, b3, ?_, ?_⟩
    · intro k hk1 hk2
      by_cases hk : k ≤ o'
      · exact b4 k hk1 hk
      · by_cases hk' : k ≤ i
        · have := a4 k (by omega) hk'
          simp only [List.length_cons] at this; omega
        · have e : k = i + 1 := by omega
          subst e; rw [sk_s11 h11, h1]; simp
    · rcases b5 with ⟨c1, c2⟩ | ⟨c1, c2, c3, c4, c5⟩
      · left
        refine ⟨c1, ?_⟩
        intro k hk1 hk2 hk9 p'' r'' hst
        by_cases hk : k < o'
        · exact c2 k hk1 hk hk9 p'' r'' hst
        · by_cases hko : k = o'
          · subst hko; omega
          · by_cases hki : k = i
            · subst hki; omega
            · have T3 := ih k (by omega) (sk_oks_le hok (by omega)) o p'' r'' hst
              have e := T3.2.2.1
              have l := a4 k (by omega) (by omega)
              rw [hst, ← e, b3] at l
              simp only [List.length_cons] at l; omega
      · right; exact ⟨c1, by omega, c3, c4, c5⟩
  · rw [sk_sn h8 h9 h11] at hs
    obtain ⟨a1, a2, a3, a4, a5⟩ := ih i (by omega) hok' o p r hs
    refine ⟨by omega, a2, a3, ?_, ?_⟩
    · intro k hk1 hk2
      by_cases hk : k = i + 1
      · subst hk; rw [sk_sn h8 h9 h11, hs]; simp
      · exact a4 k hk1 (by omega)
    · rcases a5 with ⟨c1, c2⟩ | ⟨c1, c2, c3, c4, c5⟩
      · left
        refine ⟨c1, ?_⟩
        intro k hk1 hk2 hk9
        by_cases hk : k = i
        · subst hk; omega
        · exact c2 k hk1 (by omega) hk9
      · right; exact ⟨c1, by omega, c3, c4, c5⟩
-- m is the next sibling boundary of j
def sk_nx (K : Nat → Nat) (j m : Nat) : Prop := (K m = 9 ∨ K m = 11) ∧ ∃ o r, sk_st K m = (o, j) :: r
theorem sk_srt {K : Nat → Nat} : ∀ i, (∀ e ∈ sk_st K i, e.2 < i) ∧ List.Pairwise (fun a b => b.2 < a.2) (sk_st K i) := by
  intro i
  induction i with
  | zero => simp [sk_st]
  | succ i ih =>
    obtain ⟨h1, h2⟩ := ih
    by_cases h8 : K i = 8 ∨ K i = 10
    · rw [sk_s8 h8]
      refine ⟨?_, List.Pairwise.cons h1 h2⟩
      intro e he
      rcases List.mem_cons.mp he with rfl | he
      · simp
      · have := h1 e he; omega
    by_cases h9 : K i = 9
    · rw [sk_s9 h9]
      cases hs : sk_st K i with
      | nil => simp [sk_el]
      | cons e r =>
        rw [hs] at h1 h2
        rw [List.pairwise_cons] at h2
        refine ⟨?_, List.Pairwise.cons (fun x hx => h1 x (List.mem_cons_of_mem _ hx)) h2.2⟩
        intro x hx
        rcases List.mem_cons.mp hx with rfl | hx
        · simp
        · have := h1 x (List.mem_cons_of_mem _ hx); omega
    by_cases h11 : K i = 11
    · rw [sk_s11 h11]
      refine ⟨fun e he => ?_, List.Pairwise.tail h2⟩
      have := h1 e (List.mem_of_mem_tail he); omega
    · rw [sk_sn h8 h9 h11]
      exact ⟨fun e he => by have := h1 e he; omega, h2⟩
theorem sk_gone {K : Nat → Nat} {j m : Nat} (h : sk_nx K j m) : ∀ i, m < i → ∀ e ∈ sk_st K i, e.2 ≠ j := by
  obtain ⟨hm, o, r, hs⟩ := h
  have s := sk_srt (K := K) m
  rw [hs] at s
  have hj : j < m := s.1 (o, j) (List.mem_cons_self)
  have hp := (List.pairwise_cons.mp s.2).1
  intro i
  induction i with
  | zero => intro h; omega
  | succ i ih =>
    intro hi
    by_cases e : i = m
    · subst e
      rcases hm with h9 | h11
      · rw [sk_s9 h9, hs]
        intro x hx
        rcases List.mem_cons.mp hx with rfl | hx
        · show i ≠ j; omega
        · have := hp x hx; show x.2 ≠ j; dsimp only at this; omega
      · rw [sk_s11 h11, hs]
        intro x hx
        have := hp x hx; show x.2 ≠ j; dsimp only at this; omega
    · have I := ih (by omega)
      by_cases h8 : K i = 8 ∨ K i = 10
      · rw [sk_s8 h8]
        intro x hx
        rcases List.mem_cons.mp hx with rfl | hx
        · show i ≠ j; omega
        · exact I x hx
      by_cases h9 : K i = 9
      · rw [sk_s9 h9]
        cases hs' : sk_st K i with
        | nil => intro x hx; simp [sk_el] at hx
        | cons y q =>
          rw [hs'] at I
          intro x hx
          rcases List.mem_cons.mp hx with rfl | hx
          · show i ≠ j; omega
          · exact I x (List.mem_cons_of_mem _ hx)
      by_cases h11 : K i = 11
      · rw [sk_s11 h11]
        exact fun x hx => I x (List.mem_of_mem_tail hx)
      · rw [sk_sn h8 h9 h11]; exact I
theorem sk_nxe {K : Nat → Nat} {n : Nat} (hs : sk_snd K n) {e : Nat × Nat} {r : List (Nat × Nat)} : ∀ d k, k + d = n → (∃ q, sk_st K k = q ++ e :: r) → ∃ m, k ≤ m ∧ m < n ∧ sk_st K m = e :: r ∧ (K m = 9 ∨ K m = 11) ∧ ∀ k', k ≤ k' → k' ≤ m → ∃ q, sk_st K k' = q ++ e :: r := by
  intro d
  induction d with
  | zero =>
    intro k hk ⟨q, hq⟩
    have e1 : k = n := by omega
    subst e1
    rw [hs.2] at hq
    simp at hq
  | succ d ih =>
    intro k hk ⟨q, hq⟩
    have go : (∃ q', sk_st K (k + 1) = q' ++ e :: r) → ∃ m, k ≤ m ∧ m < n ∧ sk_st K m = e :: r ∧ (K m = 9 ∨ K m = 11) ∧ ∀ k', k ≤ k' → k' ≤ m → ∃ q, sk_st K k' = q ++ e :: r := by
      intro h
      obtain ⟨m, m1, m2, m3, m4, m5⟩ := ih (k + 1) (by omega) h
      refine ⟨m, by omega, m2, m3, m4, ?_⟩
      intro k' h1 h2
      by_cases e1 : k' = k
      · subst e1; exact ⟨q, hq⟩
      · exact m5 k' (by omega) h2
    by_cases h8 : K k = 8 ∨ K k = 10
    · exact go ⟨(k, k) :: q, by rw [sk_s8 h8, hq]; rfl⟩
    by_cases h9 : K k = 9
    · cases q with
      | nil => exact ⟨k, by omega, by omega, hq, Or.inl h9, fun k' h1 h2 => ⟨[], by rw [show k' = k by omega]; exact hq⟩⟩
      | cons x q => exact go ⟨(x.1, k) :: q, by rw [sk_s9 h9, hq]; rfl⟩
    by_cases h11 : K k = 11
    · cases q with
      | nil => exact ⟨k, by omega, by omega, hq, Or.inr h11, fun k' h1 h2 => ⟨[], by rw [show k' = k by omega]; exact hq⟩⟩
      | cons x q => exact go ⟨q, by rw [sk_s11 h11, hq]; rfl⟩
    · exact go ⟨q, by rw [sk_sn h8 h9 h11, hq]⟩
-- m is the END of the opener o
def sk_en (K : Nat → Nat) (n o m : Nat) : Prop :=
  o < m ∧ m < n ∧ K m = 11 ∧ (∃ p, sk_st K m = (o, p) :: sk_st K o) ∧ ∀ k, o < k → k ≤ m → (sk_st K o).length < (sk_st K k).length
theorem sk_en_tl {K : Nat → Nat} {n o m : Nat} (h : sk_en K n o m) : sk_st K (m + 1) = sk_st K o := by
  obtain ⟨_, _, h3, ⟨p, h4⟩, _⟩ := h
  rw [sk_s11 h3, h4]; rfl
theorem sk_enu {K : Nat → Nat} {n o a b : Nat} (ha : sk_en K n o a) (hb : sk_en K n o b) : a = b := by
  have A := sk_en_tl ha
  have B := sk_en_tl hb
  obtain ⟨a1, a2, a3, a4, a5⟩ := ha
  obtain ⟨b1, b2, b3, b4, b5⟩ := hb
  by_cases h : a < b
  · have := b5 (a + 1) (by omega) (by omega); rw [A] at this; omega
  · by_cases h' : b < a
    · have := a5 (b + 1) (by omega) (by omega); rw [B] at this; omega
    · omega
theorem sk_ene {K : Nat → Nat} {n o : Nat} (hs : sk_snd K n) (ho : o < n) (h8 : K o = 8 ∨ K o = 10) :
    ∃ m, sk_en K n o m ∧ ∃ m1, o < m1 ∧ m1 ≤ m ∧ sk_st K m1 = (o, o) :: sk_st K o ∧ ((m1 = m ∧ K m1 = 11) ∨ (K m1 = 9 ∧ K o = 8 ∧ m1 < m ∧ sk_st K m = (o, m1) :: sk_st K o)) := by
  obtain ⟨m1, a1, a2, a3, a4, a5⟩ := sk_nxe hs (e := (o, o)) (r := sk_st K o) (n - (o + 1)) (o + 1) (by omega) ⟨[], by rw [sk_s8 h8]; rfl⟩
  have len1 : ∀ k, o < k → k ≤ m1 → (sk_st K o).length < (sk_st K k).length := by
    intro k hk1 hk2
    obtain ⟨q, hq⟩ := a5 k (by omega) hk2
    rw [hq]; simp only [List.length_append, List.length_cons]; omega
  rcases a4 with h9 | h11
  · obtain ⟨o', r', c1, c2⟩ := (hs.1 m1 a2).2.1 h9
    have e1 : o' = o := by
      rw [a3] at c1; injection c1 with c3; injection c3 with c4; exact c4.symm
    subst e1
    obtain ⟨m2, b1, b2, b3, b4, b5⟩ := sk_nxe hs (e := (o', m1)) (r := sk_st K o') (n - (m1 + 1)) (m1 + 1) (by omega) ⟨[], by rw [sk_s9 h9, a3]; rfl⟩
    have h11 : K m2 = 11 := by
      rcases b4 with h | h
      · obtain ⟨o2, r2, d1, d2⟩ := (hs.1 m2 b2).2.1 h
        rw [b3] at d1
        injection d1 with d3
        injection d3 with d4 d5
        omega
      · exact h
    refine ⟨m2, ⟨by omega, b2, h11, ⟨m1, b3⟩, ?_⟩, m1, by omega, by omega, a3, Or.inr ⟨h9, c2, by omega, b3⟩⟩
    intro k hk1 hk2
    by_cases hk : k ≤ m1
    · exact len1 k hk1 hk
    · obtain ⟨q, hq⟩ := b5 k (by omega) hk2
      rw [hq]; simp only [List.length_append, List.length_cons]; omega
  · exact ⟨m1, ⟨by omega, a2, h11, ⟨o, a3⟩, len1⟩, m1, by omega, by omega, a3, Or.inl ⟨rfl, h11⟩⟩
noncomputable def sk_e (K : Nat → Nat) (n o : Nat) : Nat :=
  @dite Nat (∃ m, sk_en K n o m) (Classical.propDecidable _) (fun h => h.choose) (fun _ => 0)
theorem sk_e_eq {K : Nat → Nat} {n o m : Nat} (h : sk_en K n o m) : sk_e K n o = m := by
  unfold sk_e
  rw [dif_pos (⟨m, h⟩ : ∃ m, sk_en K n o m)]
  exact sk_enu (Exists.choose_spec (⟨m, h⟩ : ∃ m, sk_en K n o m)) h
theorem sk_e_en {K : Nat → Nat} {n o : Nat} (hs : sk_snd K n) (ho : o < n) (h8 : K o = 8 ∨ K o = 10) : sk_en K n o (sk_e K n o) := by
  obtain ⟨m, h, _⟩ := sk_ene hs ho h8
  rw [sk_e_eq h]; exact h
end
section
-- the measure: an upper bound of the passes that are left
noncomputable def rm_m (K : Nat → Nat) (n : Nat) (lf : Nat → Nat) : List (Nat × Nat) → Nat → Nat
  | [], i => (n - i) * 125
  | e :: r, i => (sk_e K n e.1 - i) * 5 ^ (2 - r.length) + 1 + (if K e.1 = 10 then lf e.1 - 1 else 0) * ((sk_e K n e.1 - e.1 - 1) * 5 ^ (2 - r.length) + 1) + rm_m K n lf r (sk_e K n e.1 + 1)
theorem rm_nil {K : Nat → Nat} {n : Nat} {lf : Nat → Nat} (i : Nat) : rm_m K n lf [] i = (n - i) * 125 := rfl
theorem rm_cons {K : Nat → Nat} {n : Nat} {lf : Nat → Nat} (o p : Nat) (r : List (Nat × Nat)) (i : Nat) : rm_m K n lf ((o, p) :: r) i = (sk_e K n o - i) * 5 ^ (2 - r.length) + 1 + (if K o = 10 then lf o - 1 else 0) * ((sk_e K n o - o - 1) * 5 ^ (2 - r.length) + 1) + rm_m K n lf r (sk_e K n o + 1) := rfl
theorem rm_congr {K : Nat → Nat} {n : Nat} {lf lg : Nat → Nat} : ∀ (s : List (Nat × Nat)) (i : Nat), (∀ e ∈ s, lf e.1 = lg e.1) → rm_m K n lf s i = rm_m K n lg s i := by
  intro s
  induction s with
  | nil => intro i _; rfl
  | cons e r ih =>
    intro i h
    have h1 := h e (List.mem_cons_self)
    have h2 := ih (sk_e K n e.1 + 1) (fun x hx => h x (List.mem_cons_of_mem _ hx))
    show _ + _ * _ + rm_m K n lf r _ = _ + _ * _ + rm_m K n lg r _
    rw [h1, h2]
-- all openers on the stack lie before i
theorem rm_opn {K : Nat → Nat} : ∀ i, sk_oks K i → ∀ e ∈ sk_st K i, e.1 < i ∧ (K e.1 = 8 ∨ K e.1 = 10) := by
  intro i
  induction i with
  | zero => intro _ e he; simp [sk_st] at he
  | succ i ih =>
    intro h e he
    have I := ih (sk_oks_le h (by omega))
    by_cases h8 : K i = 8 ∨ K i = 10
    · rw [sk_s8 h8] at he
      rcases List.mem_cons.mp he with rfl | he
      · exact ⟨by simp, h8⟩
      · have := I e he; exact ⟨by omega, this.2⟩
    by_cases h9 : K i = 9
    · rw [sk_s9 h9] at he
      cases hs : sk_st K i with
      | nil => rw [hs] at he; simp [sk_el] at he
      | cons x r =>
        rw [hs] at he I
        rcases List.mem_cons.mp he with rfl | he
        · have := I x (List.mem_cons_self); exact ⟨by dsimp only; omega, this.2⟩
        · have := I e (List.mem_cons_of_mem _ he); exact ⟨by omega, this.2⟩
    by_cases h11 : K i = 11
    · rw [sk_s11 h11] at he
      have := I e (List.mem_of_mem_tail he); exact ⟨by omega, this.2⟩
    · rw [sk_sn h8 h9 h11] at he
      have := I e he; exact ⟨by omega, this.2⟩
-- where the innermost block ends
noncomputable def rm_bd (K : Nat → Nat) (n : Nat) : List (Nat × Nat) → Nat
  | [] => n
  | e :: _ => sk_e K n e.1
-- the END of the innermost block lies at i or behind it; at i only if statement i is an END
theorem rm_le {K : Nat → Nat} {n i o p : Nat} {r : List (Nat × Nat)} (hs : sk_snd K n) (hi : i < n) (h : sk_st K i = (o, p) :: r) : i ≤ sk_e K n o ∧ (i = sk_e K n o ↔ K i = 11) := by
  have T := sk_inv i (sk_oks_le hs.1 (by omega)) o p r h
  obtain ⟨a1, a2, a3, a4, a5⟩ := T
  have E := sk_e_en hs (by omega : o < n) a2
  have tl := sk_en_tl E
  obtain ⟨b1, b2, b3, b4, b5⟩ := E
  have le : i ≤ sk_e K n o := by
    by_cases hh : i ≤ sk_e K n o
    · exact hh
    · have := a4 (sk_e K n o + 1) (by omega) (by omega)
      rw [tl, a3] at this; omega
  refine ⟨le, ?_, ?_⟩
  · intro e; rw [e]; exact b3
  · intro h11
    by_cases hh : i = sk_e K n o
    · exact hh
    · have := b5 (i + 1) (by omega) (by omega)
      rw [sk_s11 h11, h, a3] at this
      simp at this
theorem rm_bd_lt {K : Nat → Nat} {n i : Nat} (hs : sk_snd K n) (hi : i < n) (h11 : K i ≠ 11) : i < rm_bd K n (sk_st K i) := by
  cases h : sk_st K i with
  | nil => exact hi
  | cons e r =>
    have := rm_le hs hi (o := e.1) (p := e.2) (r := r) h
    show i < sk_e K n e.1
    omega
theorem rm_bd_en {K : Nat → Nat} {n i m : Nat} (hs : sk_snd K n) (hi : i < n) (h8 : K i = 8 ∨ K i = 10) (hm : sk_en K n i m) : m < rm_bd K n (sk_st K i) := by
  cases h : sk_st K i with
  | nil => exact hm.2.1
  | cons e r =>
    show m < sk_e K n e.1
    have T := sk_inv i (sk_oks_le hs.1 (by omega)) e.1 e.2 r h
    have E := sk_e_en hs (by have := T.1; omega : e.1 < n) T.2.1
    have L := rm_le hs hi (o := e.1) (p := e.2) (r := r) h
    have l1 : i < sk_e K n e.1 := by omega
    by_cases hh : m < sk_e K n e.1
    · exact hh
    · have := hm.2.2.2.2 (sk_e K n e.1) l1 (by omega)
      obtain ⟨q, hq⟩ := E.2.2.2.1
      rw [hq, h, T.2.2.1] at this
      simp at this
theorem rm_step {K : Nat → Nat} {n : Nat} {lf : Nat → Nat} (s : List (Nat × Nat)) (i j : Nat) (hl : s.length ≤ 3) (h1 : i ≤ j) (h2 : j ≤ rm_bd K n s) : rm_m K n lf s i = rm_m K n lf s j + (j - i) * 5 ^ (3 - s.length) := by
  cases s with
  | nil =>
    have h2' : j ≤ n := h2
    show (n - i) * 125 = (n - j) * 125 + (j - i) * 5 ^ 3
    omega
  | cons e r =>
    have h2' : j ≤ sk_e K n e.1 := h2
    have e1 : 3 - (e :: r).length = 2 - r.length := by simp only [List.length_cons]; omega
    show (sk_e K n e.1 - i) * 5 ^ (2 - r.length) + 1 + _ + _ = (sk_e K n e.1 - j) * 5 ^ (2 - r.length) + 1 + _ + _ + (j - i) * 5 ^ (3 - (e :: r).length)
    rw [e1]
    have e2 : sk_e K n e.1 - i = (sk_e K n e.1 - j) + (j - i) := by omega
    rw [e2, Nat.add_mul]
    omega
theorem rm_w (s : List (Nat × Nat)) (h : s.length < 3) : 5 ^ (3 - s.length) = 5 * 5 ^ (2 - s.length) ∧ 0 < 5 ^ (2 - s.length) := by
  have : s.length = 0 ∨ s.length = 1 ∨ s.length = 2 := by omega
  rcases this with h | h | h <;> rw [h] <;> decide
theorem rm_a1 (a w R X : Nat) (hw : 0 < w) (hX : X = R + (a + 2) * (5 * w)) : a * w + 1 + 0 + R < X := by
  subst hX
  have e1 : (a + 2) * (5 * w) = 5 * (a * w) + 10 * w := by rw [Nat.add_mul, Nat.mul_left_comm]; omega
  omega
theorem rm_a2 (a l w R X : Nat) (hw : 0 < w) (hl : l ≤ 5) (h1 : 1 ≤ l) (hX : X = R + (a + 2) * (5 * w)) : a * w + 1 + (l - 1) * (a * w + 1) + R < X := by
  subst hX
  have e1 : (a + 2) * (5 * w) = 5 * (a * w) + 10 * w := by rw [Nat.add_mul, Nat.mul_left_comm]; omega
  have e2 : (l - 1) * (a * w + 1) ≤ 4 * (a * w + 1) := Nat.mul_le_mul_right _ (by omega)
  omega
section
variable {K : Nat → Nat} {n i : Nat} {lf : Nat → Nat}
-- the measure at i
noncomputable def rm_at (K : Nat → Nat) (n : Nat) (lf : Nat → Nat) (i : Nat) : Nat := rm_m K n lf (sk_st K i) i
theorem rm_plain (hs : sk_snd K n) (hi : i < n) (h8 : ¬ (K i = 8 ∨ K i = 10)) (h9 : ¬ K i = 9) (h11 : ¬ K i = 11) : rm_at K n lf (i + 1) < rm_at K n lf i := by
  unfold rm_at
  have b := rm_bd_lt hs hi h11
  rw [sk_sn h8 h9 h11, rm_step (sk_st K i) i (i + 1) (sk_len3 i (sk_oks_le hs.1 (by omega))) (by omega) (by omega)]
  have : 0 < 5 ^ (3 - (sk_st K i).length) := Nat.pow_pos (by decide)
  have e : i + 1 - i = 1 := by omega
  rw [e]
  omega
theorem rm_end (hs : sk_snd K n) (hi : i < n) {m : Nat} (h8 : K i = 8 ∨ K i = 10) (hm : sk_en K n i m) : rm_at K n lf i = rm_m K n lf (sk_st K i) (m + 1) + ((m - i - 1) + 2) * (5 * 5 ^ (2 - (sk_st K i).length)) ∧ 0 < 5 ^ (2 - (sk_st K i).length) := by
  have l3 : (sk_st K i).length < 3 := (hs.1 i hi).1 h8
  have b := rm_bd_en hs hi h8 hm
  have w := rm_w (sk_st K i) l3
  have := hm.1
  refine ⟨?_, w.2⟩
  unfold rm_at
  rw [rm_step (lf := lf) (sk_st K i) i (m + 1) (by omega) (by omega) (by omega), w.1]
  have e : m + 1 - i = (m - i - 1) + 2 := by omega
  rw [e]
-- into a choice's first branch
theorem rm_if (hs : sk_snd K n) (hi : i < n) (h8 : K i = 8) : rm_at K n lf (i + 1) < rm_at K n lf i := by
  have E := sk_e_en hs hi (Or.inl h8)
  obtain ⟨e1, e2⟩ := rm_end (lf := lf) hs hi (Or.inl h8) E
  unfold rm_at at e1 ⊢
  rw [sk_s8 (Or.inl h8), rm_cons, if_neg (by omega), Nat.zero_mul]
  have e3 : sk_e K n i - (i + 1) = sk_e K n i - i - 1 := by omega
  rw [e3]
  exact rm_a1 _ _ _ _ e2 e1
-- behind the END of a block at its opener
theorem rm_skip (hs : sk_snd K n) (hi : i < n) {m : Nat} (h8 : K i = 8 ∨ K i = 10) (hm : sk_en K n i m) : rm_at K n lf (m + 1) < rm_at K n lf i := by
  obtain ⟨e1, e2⟩ := rm_end (lf := lf) hs hi h8 hm
  have e3 : rm_at K n lf (m + 1) = rm_m K n lf (sk_st K i) (m + 1) := by unfold rm_at; rw [sk_en_tl hm]
  rw [e1, e3, Nat.add_mul]
  omega
-- behind the ELSE at m1 of a choice at i
theorem rm_else (hs : sk_snd K n) (hi : i < n) {m m1 : Nat} (h8 : K i = 8) (hm : sk_en K n i m) (h9 : K m1 = 9) (h1 : i < m1) (h2 : m1 < m) (hst : sk_st K m1 = (i, i) :: sk_st K i) : rm_at K n lf (m1 + 1) < rm_at K n lf i := by
  obtain ⟨e1, e2⟩ := rm_end (lf := lf) hs hi (Or.inl h8) hm
  unfold rm_at at e1 ⊢
  have e4 : sk_st K (m1 + 1) = (i, m1) :: sk_st K i := by rw [sk_s9 h9, hst]; rfl
  rw [e4, rm_cons, if_neg (by omega), Nat.zero_mul, sk_e_eq hm]
  have l : (m - (m1 + 1)) * 5 ^ (2 - (sk_st K i).length) ≤ (m - i - 1) * 5 ^ (2 - (sk_st K i).length) := Nat.mul_le_mul_right _ (by omega)
  have := rm_a1 (m - i - 1) _ _ _ e2 e1
  omega
-- into a loop
theorem rm_loop (hs : sk_snd K n) (hi : i < n) (h10 : K i = 10) {lg : Nat → Nat} (hg : ∀ o, o ≠ i → lg o = lf o) (h1 : 1 ≤ lg i) (h5 : lg i ≤ 5) : rm_at K n lg (i + 1) < rm_at K n lf i := by
  have E := sk_e_en hs hi (Or.inr h10)
  obtain ⟨e1, e2⟩ := rm_end (lf := lf) hs hi (Or.inr h10) E
  have e5 : rm_m K n lg (sk_st K i) (sk_e K n i + 1) = rm_m K n lf (sk_st K i) (sk_e K n i + 1) := by
    refine rm_congr _ _ (fun e he => hg _ ?_)
    have := (rm_opn i (sk_oks_le hs.1 (by omega)) e he).1
    omega
  unfold rm_at at e1 ⊢
  rw [sk_s8 (Or.inr h10), rm_cons, if_pos h10, e5]
  have e3 : sk_e K n i - (i + 1) = sk_e K n i - i - 1 := by omega
  rw [e3]
  exact rm_a2 _ _ _ _ _ e2 h5 h1 e1
-- from an ELSE, or an END, of the block at o behind that block
theorem rm_out (hs : sk_snd K n) (hi : i < n) {o p m : Nat} {r : List (Nat × Nat)} (hst : sk_st K i = (o, p) :: r) (hm : sk_en K n o m) {lg : Nat → Nat} (hg : ∀ q, q ≠ o → lg q = lf q) : rm_at K n lg (m + 1) < rm_at K n lf i := by
  have T := sk_inv i (sk_oks_le hs.1 (by omega)) o p r hst
  have e3 : rm_at K n lg (m + 1) = rm_m K n lf r (m + 1) := by
    unfold rm_at
    rw [sk_en_tl hm, T.2.2.1]
    refine rm_congr _ _ (fun e he => hg _ ?_)
    have he' : e ∈ sk_st K o := by rw [T.2.2.1]; exact he
    have := (rm_opn o (sk_oks_le hs.1 (by have := T.1; omega)) e he').1
    omega
  rw [e3]
  unfold rm_at
  rw [hst, rm_cons, sk_e_eq hm]
  omega
-- back to a loop's first statement
theorem rm_back (hs : sk_snd K n) (hi : i < n) {o p : Nat} {r : List (Nat × Nat)} (hst : sk_st K i = (o, p) :: r) (h11 : K i = 11) (h10 : K o = 10) {lg : Nat → Nat} (hg : ∀ q, q ≠ o → lg q = lf q) (h1 : 2 ≤ lf o) (h2 : lg o = lf o - 1) : rm_at K n lg (o + 1) < rm_at K n lf i := by
  have T := sk_inv i (sk_oks_le hs.1 (by omega)) o p r hst
  have L := rm_le hs hi hst
  have e0 : i = sk_e K n o := L.2.mpr h11
  unfold rm_at
  rw [sk_s8 (Or.inr h10), hst, T.2.2.1, rm_cons, rm_cons, if_pos h10, if_pos h10, ← e0]
  have e5 : rm_m K n lg r (i + 1) = rm_m K n lf r (i + 1) := by
    refine rm_congr _ _ (fun e he => hg _ ?_)
    have he' : e ∈ sk_st K o := by rw [T.2.2.1]; exact he
    have := (rm_opn o (sk_oks_le hs.1 (by have := T.1; omega)) e he').1
    omega
  rw [e5, h2]
  have e3 : i - (o + 1) = i - o - 1 := by omega
  rw [e3]
  generalize (i - o - 1) * 5 ^ (2 - r.length) = a
  have e4 : lf o - 1 = (lf o - 1 - 1) + 1 := by omega
  have e6 : (lf o - 1) * (a + 1) = (lf o - 1 - 1) * (a + 1) + (a + 1) := by
    rw [e4, Nat.add_mul, Nat.one_mul]
    simp
  rw [e6]
  omega
end
end
section
-- the source: kind, a, b, c, a SET's value
abbrev qs_T : Type := Nat → Nat × Nat × Nat × Nat × Int32
def qs_K (Q : qs_T) (i : Nat) : Nat := (Q i).1
def qs_A (Q : qs_T) (i : Nat) : Nat := (Q i).2.1
def qs_B (Q : qs_T) (i : Nat) : Nat := (Q i).2.2.1
def qs_C (Q : qs_T) (i : Nat) : Nat := (Q i).2.2.2.1
def qs_V (Q : qs_T) (i : Nat) : Int32 := (Q i).2.2.2.2
def qs_ok (Q : qs_T) (i : Nat) : Prop := qs_K Q i ≤ 11 ∧ (qs_K Q i ≠ 9 → qs_K Q i ≠ 11 → qs_A Q i ≤ 5) ∧ (1 ≤ qs_K Q i → qs_K Q i ≤ 6 → qs_B Q i ≤ 5) ∧ (2 ≤ qs_K Q i → qs_K Q i ≤ 6 → qs_C Q i ≤ 5)
def qs_rd (Q : qs_T) (i v : Nat) : Bool :=
  if qs_K Q i = 7 ∨ qs_K Q i = 8 then decide (qs_A Q i = v) else if qs_K Q i = 1 then decide (qs_B Q i = v) else if 2 ≤ qs_K Q i ∧ qs_K Q i ≤ 6 then (decide (qs_B Q i = v) || decide (qs_C Q i = v)) else false
def qs_wr (Q : qs_T) (i v : Nat) : Bool := decide (qs_K Q i ≤ 6) && decide (qs_A Q i = v)
def qs_wf (Q : qs_T) (n v : Nat) : Nat → Bool
  | 0 => true
  | d + 1 => if 8 ≤ qs_K Q (n - (d + 1)) then true else if qs_rd Q (n - (d + 1)) v = true then true else if qs_wr Q (n - (d + 1)) v = true then false else qs_wf Q n v d
-- whether the value that v has before statement j is still wanted
def qs_wt (Q : qs_T) (n j v : Nat) : Bool := qs_wf Q n v (n - j)
theorem qs_wt_ge {Q : qs_T} {n j v : Nat} (h : n ≤ j) : qs_wt Q n j v = true := by
  have e : n - j = 0 := by omega
  unfold qs_wt; rw [e]; rfl
theorem qs_wt_lt {Q : qs_T} {n j v : Nat} (h : j < n) : qs_wt Q n j v = if 8 ≤ qs_K Q j then true else if qs_rd Q j v = true then true else if qs_wr Q j v = true then false else qs_wt Q n (j + 1) v := by
  have e : n - j = (n - (j + 1)) + 1 := by omega
  have e2 : n - (n - (j + 1) + 1) = j := by omega
  unfold qs_wt; rw [e]
  simp only [qs_wf, e2]
theorem qs_wt_8 {Q : qs_T} {n j v : Nat} (h : 8 ≤ qs_K Q j) : qs_wt Q n j v = true := by
  by_cases hj : j < n
  · rw [qs_wt_lt hj, if_pos h]
  · exact qs_wt_ge (by omega)
theorem qs_wt_rd {Q : qs_T} {n j v : Nat} (h : qs_rd Q j v = true) : qs_wt Q n j v = true := by
  by_cases hj : j < n
  · rw [qs_wt_lt hj]
    by_cases h8 : 8 ≤ qs_K Q j
    · rw [if_pos h8]
    · rw [if_neg h8, if_pos h]
  · exact qs_wt_ge (by omega)
theorem qs_wt_up {Q : qs_T} {n j v : Nat} (h : qs_wt Q n (j + 1) v = true) (hw : qs_wr Q j v = false) : qs_wt Q n j v = true := by
  by_cases hj : j < n
  · rw [qs_wt_lt hj, hw, h]
    simp
  · exact qs_wt_ge (by omega)
def qs_mv (Q : qs_T) (n i v : Nat) : Bool := qs_wr Q i v || !(qs_wt Q n (i + 1) v)
theorem qs_mv_f {Q : qs_T} {n i v : Nat} (h : qs_wt Q n (i + 1) v = true) (hw : qs_wr Q i v = false) : qs_mv Q n i v = false := by
  unfold qs_mv; rw [h, hw]; rfl
-- descending lists
def cg_dd : Nat → Nat → List Nat
  | 0, _ => []
  | m + 1, w => (w + m) :: cg_dd m w
theorem cg_dd_s (m w : Nat) : cg_dd (m + 1) w = (w + m) :: cg_dd m w := rfl
theorem cg_dd_0 (m : Nat) : cg_dd (m + 1) 0 = m :: cg_dd m 0 := by rw [cg_dd_s, Nat.zero_add]
theorem cg_dd_snoc : ∀ m w, cg_dd (m + 1) w = cg_dd m (w + 1) ++ [w] := by
  intro m
  induction m with
  | zero => intro w; rfl
  | succ m ih => intro w; rw [cg_dd_s, ih, cg_dd_s]; simp; omega
theorem cg_dd_app (w : Nat) : ∀ m, cg_dd m w ++ cg_dd w 0 = cg_dd (w + m) 0 := by
  intro m
  induction m with
  | zero => rfl
  | succ m ih => rw [cg_dd_s, List.cons_append, ih, ← Nat.add_assoc, cg_dd_0]
theorem cg_dd_mem (v w : Nat) : ∀ m, v ∈ cg_dd m w ↔ w ≤ v ∧ v < w + m := by
  intro m
  induction m with
  | zero => simp [cg_dd]
  | succ m ih => rw [cg_dd_s, List.mem_cons, ih]; omega
theorem cg_dd_len (w : Nat) : ∀ m, (cg_dd m w).length = m := by
  intro m
  induction m with
  | zero => rfl
  | succ m ih => rw [cg_dd_s, List.length_cons, ih]
theorem cg_dd_nd (w : Nat) : ∀ m, (cg_dd m w).Nodup := by
  intro m
  induction m with
  | zero => exact List.nodup_nil
  | succ m ih =>
    rw [cg_dd_s, List.nodup_cons]
    refine ⟨?_, ih⟩
    rw [cg_dd_mem]; omega
-- pull, arrange
def cg_pc (L : List Nat) (v : Nat) : List (Int32 × Int32) := if L.idxOf v = 0 then [] else [(7, nI (L.idxOf v))]
def cg_ac : Nat → Nat → List Nat → List (Int32 × Int32)
  | 0, _, _ => []
  | m + 1, w, L => cg_pc L w ++ cg_ac m (w + 1) (w :: L.erase w)
def cg_al : Nat → Nat → List Nat → List Nat
  | 0, _, L => L
  | m + 1, w, L => cg_al m (w + 1) (w :: L.erase w)
def cg_fs (L : List Nat) : Nat → Nat → Nat
  | 0, f => f
  | d + 1, f => if L[L.length - 1 - f]? = some f then cg_fs L d (f + 1) else f
def cg_ar (L : List Nat) (T : Nat) : List (Int32 × Int32) := cg_ac (T - cg_fs L T 0) (cg_fs L T 0) L
theorem cg_pc_len (L : List Nat) (v : Nat) : (cg_pc L v).length ≤ 1 := by
  unfold cg_pc
  by_cases h : L.idxOf v = 0
  · rw [if_pos h]; simp
  · rw [if_neg h]; simp
theorem cg_ac_len : ∀ m w L, (cg_ac m w L).length ≤ m := by
  intro m
  induction m with
  | zero => intro w L; simp [cg_ac]
  | succ m ih =>
    intro w L
    have h1 := cg_pc_len L w
    have h2 := ih (w + 1) (w :: L.erase w)
    simp only [cg_ac, List.length_append]; omega
theorem cg_ar_len (L : List Nat) (T : Nat) : (cg_ar L T).length ≤ T := by
  have := cg_ac_len (T - cg_fs L T 0) (cg_fs L T 0) L
  unfold cg_ar; omega
theorem cg_fs_spec (L : List Nat) : ∀ d f, (∀ t, t < f → L[L.length - 1 - t]? = some t) → f ≤ cg_fs L d f ∧ cg_fs L d f ≤ f + d ∧ ∀ t, t < cg_fs L d f → L[L.length - 1 - t]? = some t := by
  intro d
  induction d with
  | zero => intro f h; exact ⟨Nat.le_refl _, Nat.le_refl _, h⟩
  | succ d ih =>
    intro f h
    unfold cg_fs
    by_cases c : L[L.length - 1 - f]? = some f
    · rw [if_pos c]
      have I := ih (f + 1) (by
        intro t ht
        by_cases e : t = f
        · subst e; exact c
        · exact h t (by omega))
      exact ⟨by omega, by omega, I.2.2⟩
    · rw [if_neg c]; exact ⟨Nat.le_refl _, by omega, h⟩
theorem cg_pre (L : List Nat) : ∀ f, f ≤ L.length → (∀ t, t < f → L[L.length - 1 - t]? = some t) → L.drop (L.length - f) = cg_dd f 0 := by
  intro f
  induction f with
  | zero => intro _ _; simp [cg_dd]
  | succ f ih =>
    intro h1 h2
    have I := ih (by omega) (fun t ht => h2 t (by omega))
    have hlt : L.length - (f + 1) < L.length := by omega
    rw [List.drop_eq_getElem_cons hlt]
    have e1 : L.length - (f + 1) + 1 = L.length - f := by omega
    have e2 := h2 f (by omega)
    have e3 : L.length - 1 - f = L.length - (f + 1) := by omega
    rw [e3, List.getElem?_eq_getElem hlt] at e2
    injection e2 with e4
    rw [e1, I, e4, cg_dd_0]
theorem cg_al_eq : ∀ m w (D M Z : List Nat), M.Nodup → (∀ v, v ∈ M ↔ w ≤ v ∧ v < w + m) → (∀ v, v ∈ D → v < w) → cg_al m w (D ++ (M ++ Z)) = cg_dd m w ++ (D ++ Z) := by
  intro m
  induction m with
  | zero =>
    intro w D M Z _ h2 _
    have e : M = [] := by
      cases M with
      | nil => rfl
      | cons x M => have := (h2 x).mp (List.mem_cons_self); omega
    subst e; rfl
  | succ m ih =>
    intro w D M Z h1 h2 h3
    have wD : w ∉ D := fun h => by have := h3 w h; omega
    have wM : w ∈ M := (h2 w).mpr ⟨by omega, by omega⟩
    unfold cg_al
    rw [List.erase_append_right _ wD, List.erase_append_left _ wM]
    have I := ih (w + 1) (w :: D) (M.erase w) Z (h1.erase w) (by
      intro v
      rw [h1.mem_erase_iff, h2]; omega) (by
      intro v hv
      rcases List.mem_cons.mp hv with rfl | hv
      · omega
      · have := h3 v hv; omega)
    rw [List.cons_append] at I
    rw [I, cg_dd_snoc]
    simp
theorem cg_len {L : List Nat} {T : Nat} (hn : L.Nodup) (hm : ∀ v, v ∈ L ↔ v < T) : L.length = T := by
  have p : L.Perm (cg_dd T 0) := (List.perm_ext_iff_of_nodup hn (cg_dd_nd 0 T)).mpr (fun v => by rw [hm, cg_dd_mem]; omega)
  rw [p.length_eq, cg_dd_len]
theorem cg_len_le {L : List Nat} {T : Nat} (hn : L.Nodup) (hm : ∀ v, v ∈ L → v < T) : L.length ≤ T := by
  have := hn.length_le_of_subset (l₂ := cg_dd T 0) (fun v hv => by rw [cg_dd_mem]; have := hm v hv; omega)
  rw [cg_dd_len] at this; exact this
theorem cg_arr {L : List Nat} {T : Nat} (hn : L.Nodup) (hm : ∀ v, v ∈ L ↔ v < T) : cg_al (T - cg_fs L T 0) (cg_fs L T 0) L = cg_dd T 0 ∧ cg_fs L T 0 ≤ T := by
  have len := cg_len hn hm
  obtain ⟨f1, f2, f3⟩ := cg_fs_spec L T 0 (fun t ht => by omega)
  generalize cg_fs L T 0 = f at f1 f2 f3
  have pre := cg_pre L f (by omega) f3
  have sp : L = L.take (L.length - f) ++ cg_dd f 0 := by rw [← pre]; exact (List.take_append_drop _ _).symm
  generalize L.take (L.length - f) = M at sp
  subst sp
  rw [List.nodup_append] at hn
  obtain ⟨n1, n2, n3⟩ := hn
  refine ⟨?_, by omega⟩
  have A := cg_al_eq (T - f) f [] M (cg_dd f 0) n1 (by
    intro v
    have h := hm v
    rw [List.mem_append, cg_dd_mem] at h
    constructor
    · intro hv
      have l := h.mp (Or.inl hv)
      refine ⟨?_, by omega⟩
      by_cases c : f ≤ v
      · exact c
      · exact absurd rfl (n3 v hv v (by rw [cg_dd_mem]; omega))
    · intro hv
      rcases h.mpr (by omega) with c | c
      · exact c
      · omega) (fun v hv => by simp at hv)
  rw [List.nil_append, List.nil_append] at A
  rw [A, cg_dd_app]
  congr 1; omega
-- fetch, settle
def cg_fc (L : List Nat) (v : Nat) (mv : Bool) : List (Int32 × Int32) := if mv = true then cg_pc L v else [(1, nI (L.idxOf v))]
def cg_fl (L : List Nat) (v : Nat) (mv : Bool) : List Nat := if mv = true then L.erase v else L
def cg_sc (L : List Nat) (v : Nat) : List (Int32 × Int32) := if v ∈ L then cg_pc (9 :: L) v ++ [(8, 0)] else []
theorem cg_fc_len (L : List Nat) (v : Nat) (mv : Bool) : (cg_fc L v mv).length ≤ 1 := by
  unfold cg_fc
  cases mv with
  | true => exact cg_pc_len L v
  | false => simp
theorem cg_sc_len (L : List Nat) (v : Nat) : (cg_sc L v).length ≤ 2 := by
  unfold cg_sc
  by_cases h : v ∈ L
  · rw [if_pos h]; have := cg_pc_len (9 :: L) v; simp only [List.length_append, List.length_cons, List.length_nil]; omega
  · rw [if_neg h]; simp
theorem cg_fl_mem {L : List Nat} {v x : Nat} {mv : Bool} (h : x ∈ cg_fl L v mv) : x ∈ L := by
  unfold cg_fl at h
  cases mv with
  | true => exact List.mem_of_mem_erase h
  | false => exact h
theorem cg_fl_keep {L : List Nat} {v x : Nat} {mv : Bool} (h : x ∈ L) (hx : x = v → mv = false) : x ∈ cg_fl L v mv := by
  unfold cg_fl
  by_cases e : x = v
  · rw [hx e]; exact h
  · cases mv with
    | true => exact (List.mem_erase_of_ne e).mpr h
    | false => exact h
theorem cg_fl_nd {L : List Nat} {v : Nat} {mv : Bool} (h : L.Nodup) : (cg_fl L v mv).Nodup := by
  unfold cg_fl
  cases mv with
  | true => exact h.erase v
  | false => exact h
theorem cg_fl_len (L : List Nat) (v : Nat) (mv : Bool) : (cg_fl L v mv).length ≤ L.length := by
  unfold cg_fl
  cases mv with
  | true => exact List.length_erase_le
  | false => exact Nat.le_refl _
-- the loops on the stack of blocks
def cg_lo (K : Nat → Nat) : List (Nat × Nat) → List Nat
  | [] => []
  | e :: r => if K e.1 = 10 then e.1 :: cg_lo K r else cg_lo K r
def cg_tl (K : Nat → Nat) : List (Nat × Nat) → Bool
  | [] => false
  | e :: _ => decide (K e.1 = 10)
def cg_ls (Q : qs_T) (i : Nat) : List Nat := cg_lo (qs_K Q) (sk_st (qs_K Q) i)
def cg_N (Q : qs_T) (i : Nat) : Nat := 6 + (cg_ls Q i).length
theorem cg_lo_len (K : Nat → Nat) : ∀ s, (cg_lo K s).length ≤ s.length := by
  intro s
  induction s with
  | nil => simp [cg_lo]
  | cons e r ih =>
    unfold cg_lo
    by_cases h : K e.1 = 10
    · rw [if_pos h]; simp only [List.length_cons]; omega
    · rw [if_neg h]; simp only [List.length_cons]; omega
theorem cg_lo_mem (K : Nat → Nat) {o : Nat} : ∀ s, o ∈ cg_lo K s → (∃ p, (o, p) ∈ s) ∧ K o = 10 := by
  intro s
  induction s with
  | nil => intro h; simp [cg_lo] at h
  | cons e r ih =>
    intro h
    unfold cg_lo at h
    by_cases c : K e.1 = 10
    · rw [if_pos c] at h
      rcases List.mem_cons.mp h with rfl | h
      · exact ⟨⟨e.2, List.mem_cons_self⟩, c⟩
      · obtain ⟨⟨p, h1⟩, h2⟩ := ih h; exact ⟨⟨p, List.mem_cons_of_mem _ h1⟩, h2⟩
    · rw [if_neg c] at h
      obtain ⟨⟨p, h1⟩, h2⟩ := ih h; exact ⟨⟨p, List.mem_cons_of_mem _ h1⟩, h2⟩
theorem cg_lo_el (K : Nat → Nat) (i : Nat) (s : List (Nat × Nat)) : cg_lo K (sk_el i s) = cg_lo K s := by
  cases s with
  | nil => rfl
  | cons e r => rfl
theorem cg_ls_8 {Q : qs_T} {i : Nat} (h : qs_K Q i = 8) : cg_ls Q (i + 1) = cg_ls Q i := by
  unfold cg_ls; rw [sk_s8 (Or.inl h), cg_lo, if_neg (by show ¬ qs_K Q i = 10; omega)]
theorem cg_ls_10 {Q : qs_T} {i : Nat} (h : qs_K Q i = 10) : cg_ls Q (i + 1) = i :: cg_ls Q i := by
  unfold cg_ls; rw [sk_s8 (Or.inr h), cg_lo, if_pos (by show qs_K Q i = 10; omega)]
theorem cg_ls_9 {Q : qs_T} {i : Nat} (h : qs_K Q i = 9) : cg_ls Q (i + 1) = cg_ls Q i := by
  unfold cg_ls; rw [sk_s9 h, cg_lo_el]
theorem cg_ls_p {Q : qs_T} {i : Nat} (h : qs_K Q i ≤ 7) : cg_ls Q (i + 1) = cg_ls Q i := by
  unfold cg_ls; rw [sk_sn (by omega) (by omega) (by omega)]
theorem cg_ls_cons {Q : qs_T} {i o p : Nat} {r : List (Nat × Nat)} (h : sk_st (qs_K Q) i = (o, p) :: r) (h10 : qs_K Q o = 10) : cg_ls Q i = o :: cg_lo (qs_K Q) r := by
  unfold cg_ls; rw [h, cg_lo, if_pos h10]
theorem cg_ls_cons8 {Q : qs_T} {i o p : Nat} {r : List (Nat × Nat)} (h : sk_st (qs_K Q) i = (o, p) :: r) (h10 : qs_K Q o = 8) : cg_ls Q i = cg_lo (qs_K Q) r := by
  unfold cg_ls; rw [h, cg_lo, if_neg (by show ¬ qs_K Q o = 10; omega)]
theorem cg_ls_11 {Q : qs_T} {i o p : Nat} {r : List (Nat × Nat)} (h11 : qs_K Q i = 11) (h : sk_st (qs_K Q) i = (o, p) :: r) : cg_ls Q (i + 1) = cg_lo (qs_K Q) r := by
  unfold cg_ls; rw [sk_s11 h11, h]; rfl
theorem cg_N_9 {Q : qs_T} {i : Nat} (h : sk_oks (qs_K Q) i) : cg_N Q i ≤ 9 := by
  have h1 := sk_len3 i h
  have h2 := cg_lo_len (qs_K Q) (sk_st (qs_K Q) i)
  unfold cg_N cg_ls; omega
-- what statement i becomes
def cg_sl (Q : qs_T) (n i : Nat) (L : List Nat) : List Nat :=
  if qs_K Q i = 7 then cg_fl L (qs_A Q i) (qs_mv Q n i (qs_A Q i)) else if qs_K Q i = 0 then L else if qs_K Q i = 1 then cg_fl L (qs_B Q i) (qs_mv Q n i (qs_B Q i)) else if qs_B Q i = qs_C Q i then L else cg_fl (cg_fl L (qs_B Q i) (qs_mv Q n i (qs_B Q i))) (qs_C Q i) (qs_mv Q n i (qs_C Q i))
def cg_sa (Q : qs_T) (n i : Nat) (L : List Nat) : List (Int32 × Int32) :=
  if qs_B Q i = qs_C Q i then [(1, nI (L.idxOf (qs_B Q i))), (1, nI ((9 :: L).idxOf (qs_B Q i)))] else cg_fc L (qs_B Q i) (qs_mv Q n i (qs_B Q i)) ++ cg_fc (9 :: cg_fl L (qs_B Q i) (qs_mv Q n i (qs_B Q i))) (qs_C Q i) (qs_mv Q n i (qs_C Q i))
def cg_sp (Q : qs_T) (n i : Nat) (L : List Nat) : List (Int32 × Int32) :=
  if qs_K Q i = 7 then cg_fc L (qs_A Q i) (qs_mv Q n i (qs_A Q i)) ++ [(9, 0)] else if qs_K Q i = 0 then [(0, qs_V Q i)] else if qs_K Q i = 1 then cg_fc L (qs_B Q i) (qs_mv Q n i (qs_B Q i)) else cg_sa Q n i L ++ [(nI (qs_K Q i), 0)]
def cg_bt (Q : qs_T) (i : Nat) (x : Int32) : List (Int32 × Int32) :=
  if qs_K Q i = 8 then [(1, nI ((cg_dd (cg_N Q i) 0).idxOf (qs_A Q i))), (10, x)] else if qs_K Q i = 10 then [(0, nI (qs_A Q i)), (1, 0), (10, x)] else if qs_K Q i = 9 then [(11, x)] else if cg_tl (qs_K Q) (sk_st (qs_K Q) i) = true then [(0, -1), (2, 0), (11, x), (8, 0)] else []
def cg_em (Q : qs_T) (n i : Nat) (L : List Nat) (x : Int32) : List (Int32 × Int32) :=
  if qs_K Q i = 7 then cg_sp Q n i L else if qs_K Q i ≤ 6 then cg_sp Q n i L ++ cg_sc (cg_sl Q n i L) (qs_A Q i) else cg_ar L (cg_N Q i) ++ cg_bt Q i x
def cg_nl (Q : qs_T) (n i : Nat) (L : List Nat) : List Nat :=
  if qs_K Q i = 7 then cg_sl Q n i L else if qs_K Q i ≤ 6 then qs_A Q i :: (cg_sl Q n i L).erase (qs_A Q i) else if qs_K Q i = 10 then cg_dd (cg_N Q i + 1) 0 else if qs_K Q i = 11 ∧ cg_tl (qs_K Q) (sk_st (qs_K Q) i) = true then cg_dd (cg_N Q i - 1) 0 else cg_dd (cg_N Q i) 0
def cg_ly (Q : qs_T) (n : Nat) : Nat → List Nat
  | 0 => cg_dd 6 0
  | i + 1 => cg_nl Q n i (cg_ly Q n i)
def cg_ad (Q : qs_T) (n : Nat) : Nat → Nat
  | 0 => 0
  | i + 1 => cg_ad Q n i + (cg_em Q n i (cg_ly Q n i) 0).length
theorem cg_bt_len (Q : qs_T) (i : Nat) (x : Int32) : (cg_bt Q i x).length ≤ 4 ∧ (cg_bt Q i x).length = (cg_bt Q i 0).length := by
  unfold cg_bt
  by_cases h1 : qs_K Q i = 8
  · rw [if_pos h1, if_pos h1]; simp
  · rw [if_neg h1, if_neg h1]
    by_cases h2 : qs_K Q i = 10
    · rw [if_pos h2, if_pos h2]; simp
    · rw [if_neg h2, if_neg h2]
      by_cases h3 : qs_K Q i = 9
      · rw [if_pos h3, if_pos h3]; simp
      · rw [if_neg h3, if_neg h3]
        by_cases h4 : cg_tl (qs_K Q) (sk_st (qs_K Q) i) = true
        · rw [if_pos h4, if_pos h4]; simp
        · rw [if_neg h4, if_neg h4]; simp
theorem cg_em_x (Q : qs_T) (n i : Nat) (L : List Nat) (x : Int32) : (cg_em Q n i L x).length = (cg_em Q n i L 0).length := by
  unfold cg_em
  by_cases h1 : qs_K Q i = 7
  · rw [if_pos h1, if_pos h1]
  · rw [if_neg h1, if_neg h1]
    by_cases h2 : qs_K Q i ≤ 6
    · rw [if_pos h2, if_pos h2]
    · rw [if_neg h2, if_neg h2, List.length_append, List.length_append, (cg_bt_len Q i x).2]
theorem cg_sp_len (Q : qs_T) (n i : Nat) (L : List Nat) : (cg_sp Q n i L).length ≤ 3 := by
  have f := fun L v mv => cg_fc_len L v mv
  unfold cg_sp
  by_cases h1 : qs_K Q i = 7
  · rw [if_pos h1]; have := f L (qs_A Q i) (qs_mv Q n i (qs_A Q i)); simp only [List.length_append, List.length_cons, List.length_nil]; omega
  · rw [if_neg h1]
    by_cases h2 : qs_K Q i = 0
    · rw [if_pos h2]; simp
    · rw [if_neg h2]
      by_cases h3 : qs_K Q i = 1
      · rw [if_pos h3]; have := f L (qs_B Q i) (qs_mv Q n i (qs_B Q i)); omega
      · rw [if_neg h3]
        unfold cg_sa
        by_cases h4 : qs_B Q i = qs_C Q i
        · rw [if_pos h4]; simp
        · rw [if_neg h4]
          have a := f L (qs_B Q i) (qs_mv Q n i (qs_B Q i))
          have b := f (9 :: cg_fl L (qs_B Q i) (qs_mv Q n i (qs_B Q i))) (qs_C Q i) (qs_mv Q n i (qs_C Q i))
          simp only [List.length_append, List.length_cons, List.length_nil]; omega
theorem cg_em_len {Q : qs_T} {n i : Nat} {L : List Nat} {x : Int32} (h : sk_oks (qs_K Q) i) : (cg_em Q n i L x).length ≤ 13 := by
  have s := cg_sp_len Q n i L
  unfold cg_em
  by_cases h1 : qs_K Q i = 7
  · rw [if_pos h1]; omega
  · rw [if_neg h1]
    by_cases h2 : qs_K Q i ≤ 6
    · rw [if_pos h2]; have := cg_sc_len (cg_sl Q n i L) (qs_A Q i); simp only [List.length_append]; omega
    · rw [if_neg h2]
      have a := cg_ar_len L (cg_N Q i)
      have b := (cg_bt_len Q i x).1
      have c := cg_N_9 h
      simp only [List.length_append]; omega
theorem cg_ad_s (Q : qs_T) (n i : Nat) (x : Int32) : cg_ad Q n (i + 1) = cg_ad Q n i + (cg_em Q n i (cg_ly Q n i) x).length := by
  rw [cg_em_x]; rfl
theorem cg_ad_le {Q : qs_T} {n : Nat} : ∀ i, sk_oks (qs_K Q) i → cg_ad Q n i ≤ 13 * i := by
  intro i
  induction i with
  | zero => intro _; exact Nat.le_refl _
  | succ i ih =>
    intro h
    have I := ih (sk_oks_le h (by omega))
    have e := cg_em_len (n := n) (L := cg_ly Q n i) (x := 0) (sk_oks_le h (by omega : i ≤ i + 1))
    rw [cg_ad_s Q n i 0]; omega
theorem cg_ad_mono (Q : qs_T) (n : Nat) : ∀ i j, i ≤ j → cg_ad Q n i ≤ cg_ad Q n j := by
  intro i j
  induction j with
  | zero => intro h; have e : i = 0 := by omega
            subst e; exact Nat.le_refl _
  | succ j ih =>
    intro h
    by_cases e : i = j + 1
    · subst e; exact Nat.le_refl _
    · have := ih (by omega)
      rw [cg_ad_s Q n j 0]; omega
end
section
-- what a layout before statement i holds
def lk_ok (Q : qs_T) (n i : Nat) (L : List Nat) : Prop :=
  L.Nodup ∧ (∀ v, v ∈ L → v < cg_N Q i) ∧ (∀ v, 6 ≤ v → v < cg_N Q i → v ∈ L) ∧ (∀ v, v < 6 → qs_wt Q n i v = true → v ∈ L)
theorem lk_dd {Q : qs_T} {n i T : Nat} (h : T = cg_N Q i) : lk_ok Q n i (cg_dd T 0) := by
  subst h
  refine ⟨cg_dd_nd _ _, ?_, ?_, ?_⟩
  · intro v hv; rw [cg_dd_mem] at hv; omega
  · intro v h1 h2; rw [cg_dd_mem]; omega
  · intro v h1 _; rw [cg_dd_mem]; unfold cg_N; omega
theorem lk_full {Q : qs_T} {n i : Nat} {L : List Nat} (h : lk_ok Q n i L) (hw : n ≤ i ∨ 8 ≤ qs_K Q i) : ∀ v, v ∈ L ↔ v < cg_N Q i := by
  intro v
  refine ⟨h.2.1 v, ?_⟩
  intro hv
  by_cases c : v < 6
  · refine h.2.2.2 v c ?_
    rcases hw with hw | hw
    · exact qs_wt_ge hw
    · exact qs_wt_8 hw
  · exact h.2.2.1 v (by omega) hv
theorem lk_len {Q : qs_T} {n i : Nat} {L : List Nat} (h : lk_ok Q n i L) (ho : sk_oks (qs_K Q) i) : L.length ≤ 9 := by
  have a := cg_len_le h.1 h.2.1
  have b := cg_N_9 ho
  omega
theorem lk_ne9 {Q : qs_T} {n i : Nat} {L : List Nat} (h : lk_ok Q n i L) (ho : sk_oks (qs_K Q) i) : 9 ∉ L := by
  intro h9
  have a := h.2.1 9 h9
  have b := cg_N_9 ho
  omega
-- what statement i's code keeps below its result
theorem lk_sl_sub {Q : qs_T} {n i : Nat} {L : List Nat} {v : Nat} (h : v ∈ cg_sl Q n i L) : v ∈ L := by
  unfold cg_sl at h
  by_cases h1 : qs_K Q i = 7
  · rw [if_pos h1] at h; exact cg_fl_mem h
  · rw [if_neg h1] at h
    by_cases h2 : qs_K Q i = 0
    · rw [if_pos h2] at h; exact h
    · rw [if_neg h2] at h
      by_cases h3 : qs_K Q i = 1
      · rw [if_pos h3] at h; exact cg_fl_mem h
      · rw [if_neg h3] at h
        by_cases h4 : qs_B Q i = qs_C Q i
        · rw [if_pos h4] at h; exact h
        · rw [if_neg h4] at h; exact cg_fl_mem (cg_fl_mem h)
theorem lk_sl_nd {Q : qs_T} {n i : Nat} {L : List Nat} (h : L.Nodup) : (cg_sl Q n i L).Nodup := by
  unfold cg_sl
  by_cases h1 : qs_K Q i = 7
  · rw [if_pos h1]; exact cg_fl_nd h
  · rw [if_neg h1]
    by_cases h2 : qs_K Q i = 0
    · rw [if_pos h2]; exact h
    · rw [if_neg h2]
      by_cases h3 : qs_K Q i = 1
      · rw [if_pos h3]; exact cg_fl_nd h
      · rw [if_neg h3]
        by_cases h4 : qs_B Q i = qs_C Q i
        · rw [if_pos h4]; exact h
        · rw [if_neg h4]; exact cg_fl_nd (cg_fl_nd h)
theorem lk_sl_keep {Q : qs_T} {n i : Nat} {L : List Nat} {v : Nat} (h : v ∈ L) (ha : qs_K Q i = 7 → v = qs_A Q i → qs_mv Q n i v = false) (hb : 1 ≤ qs_K Q i → qs_K Q i ≤ 6 → v = qs_B Q i → qs_mv Q n i v = false) (hc : 2 ≤ qs_K Q i → qs_K Q i ≤ 6 → v = qs_C Q i → qs_mv Q n i v = false) (hk : qs_K Q i ≤ 7) : v ∈ cg_sl Q n i L := by
  unfold cg_sl
  by_cases h1 : qs_K Q i = 7
  · rw [if_pos h1]; exact cg_fl_keep h (fun e => by have := ha h1 e; rw [e] at this; exact this)
  · rw [if_neg h1]
    by_cases h2 : qs_K Q i = 0
    · rw [if_pos h2]; exact h
    · rw [if_neg h2]
      by_cases h3 : qs_K Q i = 1
      · rw [if_pos h3]; exact cg_fl_keep h (fun e => by have := hb (by omega) (by omega) e; rw [e] at this; exact this)
      · rw [if_neg h3]
        by_cases h4 : qs_B Q i = qs_C Q i
        · rw [if_pos h4]; exact h
        · rw [if_neg h4]
          refine cg_fl_keep (cg_fl_keep h (fun e => ?_)) (fun e => ?_)
          · have := hb (by omega) (by omega) e; rw [e] at this; exact this
          · have := hc (by omega) (by omega) e; rw [e] at this; exact this
theorem lk_wr_f {Q : qs_T} {i v : Nat} (h : ¬ (qs_K Q i ≤ 6 ∧ qs_A Q i = v)) : qs_wr Q i v = false := by
  unfold qs_wr
  by_cases h1 : qs_K Q i ≤ 6
  · have h2 : ¬ qs_A Q i = v := fun e => h ⟨h1, e⟩
    simp [h2]
  · simp [h1]
theorem lk_s {Q : qs_T} {n i : Nat} {L : List Nat} (hq : qs_ok Q i) (hs : sk_ok (qs_K Q) i) (h : lk_ok Q n i L) : lk_ok Q n (i + 1) (cg_nl Q n i L) := by
  obtain ⟨q1, q2, q3, q4⟩ := hq
  unfold cg_nl
  by_cases h7 : qs_K Q i ≤ 7
  · have eN : cg_N Q (i + 1) = cg_N Q i := by unfold cg_N; rw [cg_ls_p h7]
    obtain ⟨h1, h2, h3, h4⟩ := h
    have kp6 : ∀ v, 6 ≤ v → v < cg_N Q i → v ∈ cg_sl Q n i L := by
      intro v hv hv'
      refine lk_sl_keep (h3 v hv hv') ?_ ?_ ?_ h7
      · intro a b; have := q2 (by omega) (by omega); omega
      · intro a b c; have := q3 a b; omega
      · intro a b c; have := q4 a b; omega
    have kp : ∀ v, v < 6 → qs_wt Q n (i + 1) v = true → qs_wr Q i v = false → v ∈ cg_sl Q n i L := by
      intro v hv hw hr
      have m := qs_mv_f hw hr
      exact lk_sl_keep (h4 v hv (qs_wt_up hw hr)) (fun _ _ => m) (fun _ _ _ => m) (fun _ _ _ => m) h7
    by_cases e7 : qs_K Q i = 7
    · rw [if_pos e7]
      refine ⟨lk_sl_nd h1, ?_, ?_, ?_⟩
      · intro v hv; rw [eN]; exact h2 v (lk_sl_sub hv)
      · intro v hv hv'; rw [eN] at hv'; exact kp6 v hv hv'
      · intro v hv hw; exact kp v hv hw (lk_wr_f (by omega))
    · rw [if_neg e7, if_pos (by omega)]
      have a5 := q2 (by omega) (by omega)
      refine ⟨?_, ?_, ?_, ?_⟩
      · rw [List.nodup_cons]
        exact ⟨(lk_sl_nd h1).not_mem_erase, (lk_sl_nd h1).erase _⟩
      · intro v hv
        rw [eN]
        rcases List.mem_cons.mp hv with rfl | hv
        · unfold cg_N; omega
        · exact h2 v (lk_sl_sub (List.mem_of_mem_erase hv))
      · intro v hv hv'
        rw [eN] at hv'
        exact List.mem_cons_of_mem _ ((List.mem_erase_of_ne (by omega)).mpr (kp6 v hv hv'))
      · intro v hv hw
        by_cases e : v = qs_A Q i
        · rw [e]; exact List.mem_cons_self
        · exact List.mem_cons_of_mem _ ((List.mem_erase_of_ne e).mpr (kp v hv hw (lk_wr_f (fun c => e c.2.symm))))
  · rw [if_neg (by omega), if_neg (by omega)]
    by_cases h10 : qs_K Q i = 10
    · rw [if_pos h10]; refine lk_dd ?_; unfold cg_N; rw [cg_ls_10 h10]; simp; omega
    · rw [if_neg h10]
      by_cases h11 : qs_K Q i = 11
      · obtain ⟨o, p, r, hst⟩ := hs.2.2 h11
        by_cases ho : qs_K Q o = 10
        · have tl : cg_tl (qs_K Q) (sk_st (qs_K Q) i) = true := by rw [hst]; simp [cg_tl, ho]
          rw [if_pos ⟨h11, tl⟩]; refine lk_dd ?_; unfold cg_N; rw [cg_ls_11 h11 hst, cg_ls_cons hst ho]; simp
        · have tl : ¬ (qs_K Q i = 11 ∧ cg_tl (qs_K Q) (sk_st (qs_K Q) i) = true) := by rw [hst]; simp [cg_tl, ho]
          rw [if_neg tl]; refine lk_dd ?_; unfold cg_N; rw [cg_ls_11 h11 hst]; unfold cg_ls; rw [hst, cg_lo, if_neg ho]
      · rw [if_neg (fun c => h11 c.1)]
        refine lk_dd ?_
        unfold cg_N
        by_cases h8 : qs_K Q i = 8
        · rw [cg_ls_8 h8]
        · rw [cg_ls_9 (by omega)]
theorem lk_ly {Q : qs_T} {n : Nat} : ∀ i, (∀ j, j < i → qs_ok Q j) → sk_oks (qs_K Q) i → lk_ok Q n i (cg_ly Q n i) := by
  intro i
  induction i with
  | zero => intro _ _; exact lk_dd rfl
  | succ i ih =>
    intro hq hs
    exact lk_s (hq i (by omega)) (hs i (by omega)) (ih (fun j hj => hq j (by omega)) (sk_oks_le hs (by omega)))
-- what the code of statement i asks of the layout
theorem lk_rdA {Q : qs_T} {n i : Nat} {L : List Nat} (hq : qs_ok Q i) (h : lk_ok Q n i L) (hk : qs_K Q i = 7) : qs_A Q i ∈ L := by
  have a := hq.2.1 (by omega) (by omega)
  refine h.2.2.2 _ (by omega) (qs_wt_rd ?_)
  unfold qs_rd; rw [if_pos (Or.inl hk)]; simp
theorem lk_rdB {Q : qs_T} {n i : Nat} {L : List Nat} (hq : qs_ok Q i) (h : lk_ok Q n i L) (h1 : 1 ≤ qs_K Q i) (h6 : qs_K Q i ≤ 6) : qs_B Q i ∈ L := by
  have a := hq.2.2.1 h1 h6
  refine h.2.2.2 _ (by omega) (qs_wt_rd ?_)
  unfold qs_rd; rw [if_neg (by omega)]
  by_cases e : qs_K Q i = 1
  · rw [if_pos e]; simp
  · rw [if_neg e, if_pos (by omega)]; simp
theorem lk_rdC {Q : qs_T} {n i : Nat} {L : List Nat} (hq : qs_ok Q i) (h : lk_ok Q n i L) (h1 : 2 ≤ qs_K Q i) (h6 : qs_K Q i ≤ 6) : qs_C Q i ∈ L := by
  have a := hq.2.2.2 h1 h6
  refine h.2.2.2 _ (by omega) (qs_wt_rd ?_)
  unfold qs_rd; rw [if_neg (by omega), if_neg (by omega), if_pos (by omega)]; simp
end
section
-- pieces of code
def sg_g (cl : List (Int32 × Int32)) (a : Nat) (l : List (Int32 × Int32)) : Prop := ∀ t x, l[t]? = some x → cl[a + t]? = some x
theorem sg_nil (cl : List (Int32 × Int32)) (a : Nat) : sg_g cl a [] := fun t x h => by simp at h
theorem sg_cons {cl : List (Int32 × Int32)} {a : Nat} {x : Int32 × Int32} {l : List (Int32 × Int32)} (h : sg_g cl a (x :: l)) : cl[a]? = some x ∧ sg_g cl (a + 1) l := by
  refine ⟨h 0 x rfl, ?_⟩
  intro t y hy
  have := h (t + 1) y hy
  rw [show a + (t + 1) = a + 1 + t by omega] at this
  exact this
theorem sg_l {cl : List (Int32 × Int32)} {a : Nat} {l m : List (Int32 × Int32)} (h : sg_g cl a (l ++ m)) : sg_g cl a l := by
  intro t x hx
  refine h t x ?_
  have : t < l.length := (List.getElem?_eq_some_iff.mp hx).1
  rw [List.getElem?_append_left this]; exact hx
theorem sg_r {cl : List (Int32 × Int32)} {a : Nat} {l m : List (Int32 × Int32)} (h : sg_g cl a (l ++ m)) : sg_g cl (a + l.length) m := by
  intro t x hx
  have := h (l.length + t) x (by rw [List.getElem?_append_right (by omega)]; rw [show l.length + t - l.length = t by omega]; exact hx)
  rw [Nat.add_assoc]; exact this
theorem sg_new (cl l : List (Int32 × Int32)) : sg_g (cl ++ l) cl.length l := by
  intro t x hx
  rw [List.getElem?_append_right (by omega), show cl.length + t - cl.length = t by omega]; exact hx
theorem sg_old {cl : List (Int32 × Int32)} {a : Nat} {l : List (Int32 × Int32)} (w : List (Int32 × Int32)) (h : sg_g cl a l) : sg_g (cl ++ w) a l := by
  intro t x hx
  have := h t x hx
  have hl : a + t < cl.length := (List.getElem?_eq_some_iff.mp this).1
  rw [List.getElem?_append_left hl]; exact this
theorem sg_set {cl : List (Int32 × Int32)} {a q : Nat} {l : List (Int32 × Int32)} {y : Int32 × Int32} (h : sg_g cl a l) (hq : q < a ∨ a + l.length ≤ q) : sg_g (cl.set q y) a l := by
  intro t x hx
  have hl : t < l.length := (List.getElem?_eq_some_iff.mp hx).1
  rw [List.getElem?_set_ne (by omega)]
  exact h t x hx
theorem sg_setl {cl : List (Int32 × Int32)} {a : Nat} {l : List (Int32 × Int32)} {x y : Int32 × Int32} (h : sg_g cl a (l ++ [x])) : sg_g (cl.set (a + l.length) y) a (l ++ [y]) := by
  intro t z hz
  by_cases ht : t < l.length
  · rw [List.getElem?_set_ne (by omega)]
    rw [List.getElem?_append_left ht] at hz
    exact h t z (by rw [List.getElem?_append_left ht]; exact hz)
  · have hl : t < (l ++ [y]).length := (List.getElem?_eq_some_iff.mp hz).1
    simp only [List.length_append, List.length_cons, List.length_nil] at hl
    have e : t = l.length := by omega
    subst e
    have h0 := h l.length x (by simp)
    have hl2 : a + l.length < cl.length := (List.getElem?_eq_some_iff.mp h0).1
    rw [List.getElem?_set_self hl2]
    simpa using hz
-- the machine: rules of a step, over any predicate of (steps, place, stack, printed, output)
def vm_cp (k : Nat) (p q : Int32) : Int32 := if k = 2 then p + q else if k = 3 then p - q else if k = 4 then p * q else if k = 5 then p ^^^ q else if p < q then 1 else 0
def vm_pr (o : Nat → Int32) (c : Nat) (x : Int32) : Nat → Int32 := if c < 64 then upd o c x else o
def vm_R (cl : List (Int32 × Int32)) (W : Nat → Nat → List Int32 → Nat → (Nat → Int32) → Prop) : Prop :=
  (∀ t pc S c o x, t < 90000 → S.length < 16 → cl[pc]? = some (0, x) → W (t + 1) (pc + 1) (x :: S) c o → W t pc S c o) ∧
  (∀ t pc S c o d x, t < 90000 → S.length < 16 → cl[pc]? = some (1, nI d) → S[d]? = some x → W (t + 1) (pc + 1) (x :: S) c o → W t pc S c o) ∧
  (∀ t pc S c o d x, t < 90000 → cl[pc]? = some (7, nI d) → S[d]? = some x → W (t + 1) (pc + 1) (x :: S.eraseIdx d) c o → W t pc S c o) ∧
  (∀ t pc S c o k p q, t < 90000 → 2 ≤ k → k ≤ 6 → cl[pc]? = some (nI k, 0) → W (t + 1) (pc + 1) (vm_cp k p q :: S) c o → W t pc (q :: p :: S) c o) ∧
  (∀ t pc S c o x, t < 90000 → cl[pc]? = some (8, 0) → W (t + 1) (pc + 1) S c o → W t pc (x :: S) c o) ∧
  (∀ t pc S c o x, t < 90000 → c < 90000 → cl[pc]? = some (9, 0) → W (t + 1) (pc + 1) S (c + 1) (vm_pr o c x) → W t pc (x :: S) c o) ∧
  (∀ t pc S c o x q, t < 90000 → cl[pc]? = some (10, nI q) → (0 < x → W (t + 1) (pc + 1) S c o) → (¬ 0 < x → W (t + 1) q S c o) → W t pc (x :: S) c o) ∧
  (∀ t pc S c o q, t < 90000 → cl[pc]? = some (11, nI q) → W (t + 1) q S c o → W t pc S c o)
def vm_go (cl : List (Int32 × Int32)) (t pc : Nat) (S : List Int32) (c : Nat) (o : Nat → Int32) (t' pc' : Nat) (S' : List Int32) (c' : Nat) (o' : Nat → Int32) : Prop :=
  ∀ W, vm_R cl W → W t' pc' S' c' o' → W t pc S c o
section
variable {cl : List (Int32 × Int32)} {t pc c : Nat} {S : List Int32} {o : Nat → Int32}
theorem vm_rf : vm_go cl t pc S c o t pc S c o := fun _ _ h => h
theorem vm_tr {t1 p1 c1 t2 p2 c2 : Nat} {S1 S2 : List Int32} {o1 o2 : Nat → Int32} (h : vm_go cl t pc S c o t1 p1 S1 c1 o1) (g : vm_go cl t1 p1 S1 c1 o1 t2 p2 S2 c2 o2) : vm_go cl t pc S c o t2 p2 S2 c2 o2 := fun W hW h2 => h W hW (g W hW h2)
theorem vm_push {x : Int32} (ht : t < 90000) (hl : S.length < 16) (h : cl[pc]? = some (0, x)) : vm_go cl t pc S c o (t + 1) (pc + 1) (x :: S) c o := fun W hW k => hW.1 t pc S c o x ht hl h k
theorem vm_dup {d : Nat} {x : Int32} (ht : t < 90000) (hl : S.length < 16) (h : cl[pc]? = some (1, nI d)) (hx : S[d]? = some x) : vm_go cl t pc S c o (t + 1) (pc + 1) (x :: S) c o := fun W hW k => hW.2.1 t pc S c o d x ht hl h hx k
theorem vm_pul {d : Nat} {x : Int32} (ht : t < 90000) (h : cl[pc]? = some (7, nI d)) (hx : S[d]? = some x) : vm_go cl t pc S c o (t + 1) (pc + 1) (x :: S.eraseIdx d) c o := fun W hW k => hW.2.2.1 t pc S c o d x ht h hx k
theorem vm_op {k : Nat} {p q : Int32} (ht : t < 90000) (h2 : 2 ≤ k) (h6 : k ≤ 6) (h : cl[pc]? = some (nI k, 0)) : vm_go cl t pc (q :: p :: S) c o (t + 1) (pc + 1) (vm_cp k p q :: S) c o := fun W hW g => hW.2.2.2.1 t pc S c o k p q ht h2 h6 h g
theorem vm_drop {x : Int32} (ht : t < 90000) (h : cl[pc]? = some (8, 0)) : vm_go cl t pc (x :: S) c o (t + 1) (pc + 1) S c o := fun W hW k => hW.2.2.2.2.1 t pc S c o x ht h k
theorem vm_out {x : Int32} (ht : t < 90000) (hc : c < 90000) (h : cl[pc]? = some (9, 0)) : vm_go cl t pc (x :: S) c o (t + 1) (pc + 1) S (c + 1) (vm_pr o c x) := fun W hW k => hW.2.2.2.2.2.1 t pc S c o x ht hc h k
theorem vm_jt {x : Int32} {q : Nat} (ht : t < 90000) (h : cl[pc]? = some (10, nI q)) (hx : 0 < x) : vm_go cl t pc (x :: S) c o (t + 1) (pc + 1) S c o := fun W hW k => hW.2.2.2.2.2.2.1 t pc S c o x q ht h (fun _ => k) (fun z => absurd hx z)
theorem vm_jf {x : Int32} {q : Nat} (ht : t < 90000) (h : cl[pc]? = some (10, nI q)) (hx : ¬ 0 < x) : vm_go cl t pc (x :: S) c o (t + 1) q S c o := fun W hW k => hW.2.2.2.2.2.2.1 t pc S c o x q ht h (fun z => absurd z hx) (fun _ => k)
theorem vm_jmp {q : Nat} (ht : t < 90000) (h : cl[pc]? = some (11, nI q)) : vm_go cl t pc S c o (t + 1) q S c o := fun W hW k => hW.2.2.2.2.2.2.2 t pc S c o q ht h k
theorem vm_idx {M : List Nat} {g : Nat → Int32} {v : Nat} (hv : v ∈ M) : (M.map g)[M.idxOf v]? = some (g v) := by
  have hl := List.idxOf_lt_length_of_mem hv
  rw [List.getElem?_map, List.getElem?_eq_getElem hl, List.getElem_idxOf hl]; rfl
theorem vm_mapE (g : Nat → Int32) : ∀ (M : List Nat) (d : Nat), (M.map g).eraseIdx d = (M.eraseIdx d).map g := by
  intro M
  induction M with
  | nil => intro d; rfl
  | cons x M ih =>
    intro d
    cases d with
    | zero => rfl
    | succ d => simp only [List.map_cons, List.eraseIdx_cons_succ, ih d]
theorem vm_pull {M : List Nat} {g : Nat → Int32} {v : Nat} (hv : v ∈ M) (h : sg_g cl pc (cg_pc M v)) (ht : t < 90000) : vm_go cl t pc (M.map g) c o (t + (cg_pc M v).length) (pc + (cg_pc M v).length) ((v :: M.erase v).map g) c o := by
  unfold cg_pc at h ⊢
  by_cases e : M.idxOf v = 0
  · rw [if_pos e]
    have e2 : v :: M.erase v = M := by
      cases M with
      | nil => simp at hv
      | cons x M =>
        have e3 : x = v := by
          rw [List.idxOf_cons] at e
          by_cases c : x = v
          · exact c
          · rw [show (x == v) = false by simp [c]] at e; simp at e
        subst e3; simp
    rw [e2]; exact vm_rf
  · rw [if_neg e] at h ⊢
    have hx := vm_idx (g := g) hv
    have st := vm_pul (S := M.map g) (c := c) (o := o) ht (sg_cons h).1 hx
    rw [vm_mapE, ← List.erase_eq_eraseIdx_of_idxOf rfl] at st
    exact st
theorem vm_fetch {M : List Nat} {g : Nat → Int32} {v : Nat} {mv : Bool} (hv : v ∈ M) (h : sg_g cl pc (cg_fc M v mv)) (ht : t < 90000) (hl : M.length < 16) : vm_go cl t pc (M.map g) c o (t + (cg_fc M v mv).length) (pc + (cg_fc M v mv).length) (g v :: (cg_fl M v mv).map g) c o := by
  cases mv with
  | true => exact vm_pull hv h ht
  | false => exact vm_dup ht (by rw [List.length_map]; exact hl) (sg_cons h).1 (vm_idx hv)
def vm_nn (x : Int32) (f : Nat → Int32) (v : Nat) : Int32 := if v = 9 then x else f v
theorem vm_nn_9 (x : Int32) (f : Nat → Int32) : vm_nn x f 9 = x := rfl
theorem vm_nn_o {x : Int32} {f : Nat → Int32} {v : Nat} (h : v ≠ 9) : vm_nn x f v = f v := if_neg h
theorem vm_nn_map {x : Int32} {f : Nat → Int32} {L : List Nat} (h : 9 ∉ L) : L.map (vm_nn x f) = L.map f := by
  refine List.map_congr_left (fun v hv => vm_nn_o ?_)
  intro e; subst e; exact h hv
theorem vm_settle {L : List Nat} {f : Nat → Int32} {x : Int32} {v : Nat} (h9 : 9 ∉ L) (hv : v ≠ 9) (h : sg_g cl pc (cg_sc L v)) (ht : t + 1 < 90000) : vm_go cl t pc (x :: L.map f) c o (t + (cg_sc L v).length) (pc + (cg_sc L v).length) (x :: (L.erase v).map f) c o := by
  unfold cg_sc at h ⊢
  by_cases m : v ∈ L
  · rw [if_pos m] at h ⊢
    have h91 : 9 ∉ L.erase v := fun z => h9 (List.mem_of_mem_erase z)
    have a := vm_pull (g := vm_nn x f) (c := c) (o := o) (List.mem_cons_of_mem 9 m) (sg_l h) (by omega : t < 90000)
    have e1 : (9 :: L).map (vm_nn x f) = x :: L.map f := by rw [List.map_cons, vm_nn_map h9]; rfl
    have e2 : (v :: (9 :: L).erase v).map (vm_nn x f) = f v :: x :: (L.erase v).map f := by
      rw [List.erase_cons_tail (by simp; omega), List.map_cons, List.map_cons, vm_nn_map h91, vm_nn_o hv]; rfl
    rw [e1, e2] at a
    have p1 := cg_pc_len (9 :: L) v
    have b := vm_drop (S := x :: (L.erase v).map f) (x := f v) (c := c) (o := o) (t := t + (cg_pc (9 :: L) v).length) (by omega) (sg_cons (sg_r h)).1
    rw [List.length_append, ← Nat.add_assoc, ← Nat.add_assoc]
    exact vm_tr a b
  · rw [if_neg m, List.erase_of_not_mem m]; exact vm_rf
theorem vm_arr {g : Nat → Int32} : ∀ m w (L : List Nat) (t pc : Nat), (∀ v, w ≤ v → v < w + m → v ∈ L) → sg_g cl pc (cg_ac m w L) → t + m ≤ 90000 → vm_go cl t pc (L.map g) c o (t + (cg_ac m w L).length) (pc + (cg_ac m w L).length) ((cg_al m w L).map g) c o := by
  intro m
  induction m with
  | zero => intro w L t pc _ _ _; exact vm_rf
  | succ m ih =>
    intro w L t pc hm h ht
    unfold cg_ac at h ⊢
    unfold cg_al
    have p1 := cg_pc_len L w
    have a := vm_pull (g := g) (c := c) (o := o) (hm w (by omega) (by omega)) (sg_l h) (by omega : t < 90000)
    have b := ih (w + 1) (w :: L.erase w) (t + (cg_pc L w).length) (pc + (cg_pc L w).length) (by
      intro v h1 h2
      exact List.mem_cons_of_mem _ ((List.mem_erase_of_ne (by omega)).mpr (hm v (by omega) (by omega)))) (sg_r h) (by omega)
    rw [List.length_append, ← Nat.add_assoc, ← Nat.add_assoc]
    exact vm_tr a b
theorem vm_arrange {g : Nat → Int32} {L : List Nat} {T : Nat} (hn : L.Nodup) (hm : ∀ v, v ∈ L ↔ v < T) (h : sg_g cl pc (cg_ar L T)) (ht : t + T ≤ 90000) : vm_go cl t pc (L.map g) c o (t + (cg_ar L T).length) (pc + (cg_ar L T).length) ((cg_dd T 0).map g) c o := by
  obtain ⟨a, b⟩ := cg_arr hn hm
  have r := vm_arr (cl := cl) (g := g) (c := c) (o := o) (T - cg_fs L T 0) (cg_fs L T 0) L t pc (fun v h1 h2 => (hm v).mpr (by omega)) h (by omega)
  rw [a] at r
  exact r
end
end
section
-- what a thing on the stack is worth
def vl_f (va lf : Nat → Int32) : List Nat → Nat → Int32
  | [], t => va t
  | o :: r, t => if t = 6 + r.length then lf o else vl_f va lf r t
theorem vl_lt {va lf : Nat → Int32} : ∀ (ls : List Nat) (t : Nat), t < 6 → vl_f va lf ls t = va t := by
  intro ls
  induction ls with
  | nil => intro t _; rfl
  | cons o r ih => intro t h; unfold vl_f; rw [if_neg (by omega)]; exact ih t h
theorem vl_top {va lf : Nat → Int32} (o : Nat) (r : List Nat) : vl_f va lf (o :: r) (6 + r.length) = lf o := by
  unfold vl_f; rw [if_pos rfl]
theorem vl_low {va lf : Nat → Int32} {o : Nat} {r : List Nat} {t : Nat} (h : t < 6 + r.length) : vl_f va lf (o :: r) t = vl_f va lf r t := by
  conv => lhs; unfold vl_f
  rw [if_neg (by omega)]
theorem vl_va {va lf : Nat → Int32} {v : Nat} {x : Int32} (hv : v < 6) : ∀ (ls : List Nat) (t : Nat), t ≠ v → vl_f (upd va v x) lf ls t = vl_f va lf ls t := by
  intro ls
  induction ls with
  | nil => intro t h; exact pk_un h
  | cons o r ih =>
    intro t h
    unfold vl_f
    by_cases c : t = 6 + r.length
    · rw [if_pos c, if_pos c]
    · rw [if_neg c, if_neg c]; exact ih t h
theorem vl_lf {va lf lg : Nat → Int32} : ∀ (ls : List Nat) (t : Nat), (∀ o, o ∈ ls → lg o = lf o) → vl_f va lg ls t = vl_f va lf ls t := by
  intro ls
  induction ls with
  | nil => intro t _; rfl
  | cons o r ih =>
    intro t h
    unfold vl_f
    rw [h o (List.mem_cons_self), ih t (fun q hq => h q (List.mem_cons_of_mem _ hq))]
theorem vl_push {va lf lg : Nat → Int32} {o : Nat} {r : List Nat} (h : ∀ q, q ∈ r → lg q = lf q) : (cg_dd (6 + r.length + 1) 0).map (vl_f va lg (o :: r)) = lg o :: (cg_dd (6 + r.length) 0).map (vl_f va lf r) := by
  rw [cg_dd_0, List.map_cons, vl_top]
  congr 1
  refine List.map_congr_left (fun t ht => ?_)
  rw [cg_dd_mem] at ht
  rw [vl_low (by omega)]
  exact vl_lf r t h
-- the operand stack before statement i
def sm_S (Q : qs_T) (n i : Nat) (va lf : Nat → Int32) : List Int32 := (cg_ly Q n i).map (vl_f va lf (cg_ls Q i))
def ys_x (Q : qs_T) (i : Nat) (va : Nat → Int32) : Int32 := if qs_K Q i = 0 then qs_V Q i else if qs_K Q i = 1 then va (qs_B Q i) else vm_cp (qs_K Q i) (va (qs_B Q i)) (va (qs_C Q i))
-- the reference's passes, over any predicate of (turn, place, variables, left, printed, output)
def ys_R (Q : qs_T) (n : Nat) (Z : Nat → Nat → (Nat → Int32) → (Nat → Int32) → Nat → (Nat → Int32) → Prop) : Prop :=
  (∀ t i va lf c o, t < 5000 → i < n → qs_K Q i ≤ 6 → Z (t + 1) (i + 1) (upd va (qs_A Q i) (ys_x Q i va)) lf c o → Z t i va lf c o) ∧
  (∀ t i va lf c o, t < 5000 → i < n → qs_K Q i = 7 → c < 90000 → Z (t + 1) (i + 1) va lf (c + 1) (vm_pr o c (va (qs_A Q i))) → Z t i va lf c o) ∧
  (∀ t i va lf c o, t < 5000 → i < n → qs_K Q i = 8 → 0 < va (qs_A Q i) → Z (t + 1) (i + 1) va lf c o → Z t i va lf c o) ∧
  (∀ t i va lf c o m, t < 5000 → i < n → qs_K Q i = 8 → ¬ 0 < va (qs_A Q i) → i < m → m < n → sk_st (qs_K Q) m = (i, i) :: sk_st (qs_K Q) i → (qs_K Q m = 9 ∨ qs_K Q m = 11) → Z (t + 1) (m + 1) va lf c o → Z t i va lf c o) ∧
  (∀ t i va lf c o q r m, t < 5000 → i < n → qs_K Q i = 9 → sk_st (qs_K Q) i = (q, q) :: r → sk_en (qs_K Q) n q m → Z (t + 1) (m + 1) va lf c o → Z t i va lf c o) ∧
  (∀ t i va lf c o m, t < 5000 → i < n → qs_K Q i = 10 → qs_A Q i = 0 → sk_en (qs_K Q) n i m → Z (t + 1) (m + 1) va (upd lf i 0) c o → Z t i va lf c o) ∧
  (∀ t i va lf c o, t < 5000 → i < n → qs_K Q i = 10 → qs_A Q i ≠ 0 → Z (t + 1) (i + 1) va (upd lf i (nI (qs_A Q i))) c o → Z t i va lf c o) ∧
  (∀ t i va lf c o q p r, t < 5000 → i < n → qs_K Q i = 11 → sk_st (qs_K Q) i = (q, p) :: r → qs_K Q q = 8 → Z (t + 1) (i + 1) va lf c o → Z t i va lf c o) ∧
  (∀ t i va lf c o q p r l, t < 5000 → i < n → qs_K Q i = 11 → sk_st (qs_K Q) i = (q, p) :: r → qs_K Q q = 10 → lf q = nI (l + 1) → l < 5 → (l = 0 → Z (t + 1) (i + 1) va (upd lf q (nI l)) c o) → (0 < l → Z (t + 1) (q + 1) va (upd lf q (nI l)) c o) → Z t i va lf c o)
-- the operands that are filled in later
def cg_tg (Q : qs_T) (n j m : Nat) : Int32 := if qs_K Q j = 10 then nI (cg_ad Q n (m + 1) - 1) else nI (cg_ad Q n (m + 1))
def cg_co (Q : qs_T) (n i : Nat) (cl : List (Int32 × Int32)) (X : Nat → Int32) : Prop :=
  (∀ j, j < i → sg_g cl (cg_ad Q n j) (cg_em Q n j (cg_ly Q n j) (X j))) ∧ (∀ j m, m < i → sk_nx (qs_K Q) j m → X j = cg_tg Q n j m) ∧ (∀ m q p r, m < i → qs_K Q m = 11 → sk_st (qs_K Q) m = (q, p) :: r → qs_K Q q = 10 → X m = nI (cg_ad Q n (q + 1) - 2))
def cg_code (Q : qs_T) (n : Nat) (cl : List (Int32 × Int32)) : Prop :=
  cl.length = cg_ad Q n n + (cg_ar (cg_ly Q n n) 6).length ∧ sg_g cl (cg_ad Q n n) (cg_ar (cg_ly Q n n) 6) ∧ ∃ X, cg_co Q n n cl X
theorem cg_em_p {Q : qs_T} {n i : Nat} {L : List Nat} {x : Int32} (h : qs_K Q i = 7) : cg_em Q n i L x = cg_fc L (qs_A Q i) (qs_mv Q n i (qs_A Q i)) ++ [(9, 0)] := by
  unfold cg_em cg_sp; rw [if_pos h, if_pos h]
theorem cg_em_s {Q : qs_T} {n i : Nat} {L : List Nat} {x : Int32} (h : qs_K Q i ≤ 6) : cg_em Q n i L x = cg_sp Q n i L ++ cg_sc (cg_sl Q n i L) (qs_A Q i) := by
  unfold cg_em; rw [if_neg (by omega), if_pos h]
theorem cg_em_b {Q : qs_T} {n i : Nat} {L : List Nat} {x : Int32} (h : 8 ≤ qs_K Q i) : cg_em Q n i L x = cg_ar L (cg_N Q i) ++ cg_bt Q i x := by
  unfold cg_em; rw [if_neg (by omega), if_neg (by omega)]
theorem cg_bt_8 {Q : qs_T} {i : Nat} {x : Int32} (h : qs_K Q i = 8) : cg_bt Q i x = [(1, nI ((cg_dd (cg_N Q i) 0).idxOf (qs_A Q i))), (10, x)] := by
  unfold cg_bt; rw [if_pos h]
theorem cg_bt_10 {Q : qs_T} {i : Nat} {x : Int32} (h : qs_K Q i = 10) : cg_bt Q i x = [(0, nI (qs_A Q i)), (1, 0), (10, x)] := by
  unfold cg_bt; rw [if_neg (by omega), if_pos h]
theorem cg_bt_9 {Q : qs_T} {i : Nat} {x : Int32} (h : qs_K Q i = 9) : cg_bt Q i x = [(11, x)] := by
  unfold cg_bt; rw [if_neg (by omega), if_neg (by omega), if_pos h]
theorem cg_bt_11l {Q : qs_T} {i q p : Nat} {r : List (Nat × Nat)} {x : Int32} (h : qs_K Q i = 11) (hs : sk_st (qs_K Q) i = (q, p) :: r) (h10 : qs_K Q q = 10) : cg_bt Q i x = [(0, -1), (2, 0), (11, x), (8, 0)] := by
  unfold cg_bt; rw [if_neg (by omega), if_neg (by omega), if_neg (by omega), hs, if_pos (by simp [cg_tl, h10])]
theorem cg_bt_11i {Q : qs_T} {i q p : Nat} {r : List (Nat × Nat)} {x : Int32} (h : qs_K Q i = 11) (hs : sk_st (qs_K Q) i = (q, p) :: r) (h8 : qs_K Q q = 8) : cg_bt Q i x = [] := by
  unfold cg_bt; rw [if_neg (by omega), if_neg (by omega), if_neg (by omega), hs, if_neg (by simp [cg_tl, h8])]
theorem cg_ly_89 {Q : qs_T} {n i : Nat} (h : qs_K Q i = 8 ∨ qs_K Q i = 9) : cg_ly Q n (i + 1) = cg_dd (cg_N Q i) 0 := by
  show cg_nl Q n i (cg_ly Q n i) = _
  unfold cg_nl; rw [if_neg (by omega), if_neg (by omega), if_neg (by omega), if_neg (by omega)]
theorem cg_ly_10 {Q : qs_T} {n i : Nat} (h : qs_K Q i = 10) : cg_ly Q n (i + 1) = cg_dd (cg_N Q i + 1) 0 := by
  show cg_nl Q n i (cg_ly Q n i) = _
  unfold cg_nl; rw [if_neg (by omega), if_neg (by omega), if_pos (by omega)]
theorem cg_ly_11l {Q : qs_T} {n i q p : Nat} {r : List (Nat × Nat)} (h : qs_K Q i = 11) (hs : sk_st (qs_K Q) i = (q, p) :: r) (h10 : qs_K Q q = 10) : cg_ly Q n (i + 1) = cg_dd (cg_N Q i - 1) 0 := by
  show cg_nl Q n i (cg_ly Q n i) = _
  unfold cg_nl; rw [if_neg (by omega), if_neg (by omega), if_neg (by omega), hs, if_pos ⟨h, by simp [cg_tl, h10]⟩]
theorem cg_ly_11i {Q : qs_T} {n i q p : Nat} {r : List (Nat × Nat)} (h : qs_K Q i = 11) (hs : sk_st (qs_K Q) i = (q, p) :: r) (h8 : qs_K Q q = 8) : cg_ly Q n (i + 1) = cg_dd (cg_N Q i) 0 := by
  show cg_nl Q n i (cg_ly Q n i) = _
  unfold cg_nl; rw [if_neg (by omega), if_neg (by omega), if_neg (by omega), hs, if_neg (by simp [cg_tl, h8])]
section
variable {Q : qs_T} {n i : Nat} {cl : List (Int32 × Int32)} {t c : Nat} {o va lf : Nat → Int32} {X : Nat → Int32}
-- a straight statement but PRINT
theorem sm_plain (hq : qs_ok Q i) (ho : sk_oks (qs_K Q) i) (hl : lk_ok Q n i (cg_ly Q n i)) (hk : qs_K Q i ≤ 6) (hg : sg_g cl (cg_ad Q n i) (cg_em Q n i (cg_ly Q n i) (X i))) (ht : t + 16 ≤ 90000) :
    ∃ k, k ≤ 15 ∧ vm_go cl t (cg_ad Q n i) (sm_S Q n i va lf) c o (t + k) (cg_ad Q n (i + 1)) (sm_S Q n (i + 1) (upd va (qs_A Q i) (ys_x Q i va)) lf) c o := by
  have len9 := lk_len hl ho
  have n9 := lk_ne9 hl ho
  have a5 : qs_A Q i ≤ 5 := hq.2.1 (by omega) (by omega)
  have l13 := cg_em_len (n := n) (L := cg_ly Q n i) (x := X i) ho
  refine ⟨(cg_em Q n i (cg_ly Q n i) (X i)).length, by omega, ?_⟩
  rw [cg_ad_s Q n i (X i)]
  have eL : cg_ly Q n (i + 1) = qs_A Q i :: (cg_sl Q n i (cg_ly Q n i)).erase (qs_A Q i) := by
    show cg_nl Q n i (cg_ly Q n i) = _
    unfold cg_nl; rw [if_neg (by omega), if_pos hk]
  unfold sm_S
  rw [eL, cg_ls_p (by omega)]
  generalize hL : cg_ly Q n i = L at *
  generalize hf : vl_f va lf (cg_ls Q i) = f
  have fv : ∀ v, v < 6 → f v = va v := fun v hv => by rw [← hf]; exact vl_lt _ v hv
  have ndS := lk_sl_nd (Q := Q) (n := n) (i := i) hl.1
  have n9S : 9 ∉ cg_sl Q n i L := fun z => n9 (lk_sl_sub z)
  have e9 : (qs_A Q i :: (cg_sl Q n i L).erase (qs_A Q i)).map (vl_f (upd va (qs_A Q i) (ys_x Q i va)) lf (cg_ls Q i)) = ys_x Q i va :: ((cg_sl Q n i L).erase (qs_A Q i)).map f := by
    rw [List.map_cons, vl_lt _ _ (by omega), pk_us]
    congr 1
    refine List.map_congr_left (fun v hv => ?_)
    have hne : v ≠ qs_A Q i := by
      intro e; subst e; exact ndS.not_mem_erase hv
    rw [vl_va (by omega) _ _ hne, hf]
  rw [e9]
  rw [cg_em_s hk] at hg l13 ⊢
  have sl := cg_sp_len Q n i L
  have S1 : vm_go cl t (cg_ad Q n i) (L.map f) c o (t + (cg_sp Q n i L).length) (cg_ad Q n i + (cg_sp Q n i L).length) (ys_x Q i va :: (cg_sl Q n i L).map f) c o := by
    have g1 := sg_l hg
    clear hg e9 n9S ndS l13
    unfold cg_sp at g1 ⊢
    unfold cg_sl ys_x
    have k7 : ¬ qs_K Q i = 7 := by omega
    simp only [if_neg k7] at g1 ⊢
    by_cases k0 : qs_K Q i = 0
    · simp only [if_pos k0] at g1 ⊢
      exact vm_push (by omega) (by rw [List.length_map]; omega) (sg_cons g1).1
    · simp only [if_neg k0] at g1 ⊢
      have bL := lk_rdB hq hl (by omega) hk
      have b5 := hq.2.2.1 (by omega) hk
      by_cases k1 : qs_K Q i = 1
      · simp only [if_pos k1] at g1 ⊢
        have a := vm_fetch (g := f) (c := c) (o := o) bL g1 (by omega : t < 90000) (by omega)
        rw [fv _ (by omega)] at a
        exact a
      · simp only [if_neg k1] at g1 ⊢
        have cL := lk_rdC hq hl (by omega) hk
        have c5 := hq.2.2.2 (by omega) hk
        have g2 := sg_l g1
        have g3 := (sg_cons (sg_r g1)).1
        unfold cg_sa at g2 g3 ⊢
        by_cases bc : qs_B Q i = qs_C Q i
        · simp only [if_pos bc] at g2 g3 ⊢
          have a := vm_dup (S := L.map f) (c := c) (o := o) (by omega : t < 90000) (by rw [List.length_map]; omega) (sg_cons g2).1 (vm_idx bL)
          have b := vm_dup (S := (9 :: L).map (vm_nn (f (qs_B Q i)) f)) (c := c) (o := o) (by omega : t + 1 < 90000) (by rw [List.length_map, List.length_cons]; omega) (sg_cons (sg_cons g2).2).1 (vm_idx (List.mem_cons_of_mem 9 bL))
          rw [vm_nn_o (by omega), List.map_cons, vm_nn_map n9, vm_nn_9] at b
          have d := vm_op (S := L.map f) (k := qs_K Q i) (p := f (qs_B Q i)) (q := f (qs_B Q i)) (c := c) (o := o) (t := t + 1 + 1) (by omega) (by omega) hk g3
          rw [fv _ (by omega)] at a b d
          rw [← bc]
          exact vm_tr (vm_tr a b) d
        · simp only [if_neg bc] at g2 g3 ⊢
          generalize hm1 : qs_mv Q n i (qs_B Q i) = mb at *
          generalize hm2 : qs_mv Q n i (qs_C Q i) = mc at *
          have f1 := cg_fc_len L (qs_B Q i) mb
          have f2 := cg_fc_len (9 :: cg_fl L (qs_B Q i) mb) (qs_C Q i) mc
          have l1 := cg_fl_len L (qs_B Q i) mb
          have n91 : 9 ∉ cg_fl L (qs_B Q i) mb := fun z => n9 (cg_fl_mem z)
          have cL1 : qs_C Q i ∈ cg_fl L (qs_B Q i) mb := cg_fl_keep cL (fun e => absurd e.symm bc)
          have n92 : 9 ∉ cg_fl (cg_fl L (qs_B Q i) mb) (qs_C Q i) mc := fun z => n91 (cg_fl_mem z)
          have a := vm_fetch (g := f) (c := c) (o := o) bL (sg_l g2) (by omega : t < 90000) (by omega)
          have b := vm_fetch (g := vm_nn (f (qs_B Q i)) f) (c := c) (o := o) (List.mem_cons_of_mem 9 cL1) (sg_r g2) (by omega : t + (cg_fc L (qs_B Q i) mb).length < 90000) (by rw [List.length_cons]; omega)
          have e1 : cg_fl (9 :: cg_fl L (qs_B Q i) mb) (qs_C Q i) mc = 9 :: cg_fl (cg_fl L (qs_B Q i) mb) (qs_C Q i) mc := by
            unfold cg_fl
            cases mc with
            | true => exact List.erase_cons_tail (by simp; omega)
            | false => rfl
          rw [e1, List.map_cons, List.map_cons, vm_nn_map n91, vm_nn_map n92, vm_nn_9, vm_nn_o (by omega)] at b
          rw [List.length_append, ← Nat.add_assoc] at g3
          have d := vm_op (S := (cg_fl (cg_fl L (qs_B Q i) mb) (qs_C Q i) mc).map f) (k := qs_K Q i) (p := f (qs_B Q i)) (q := f (qs_C Q i)) (c := c) (o := o) (t := t + (cg_fc L (qs_B Q i) mb).length + (cg_fc (9 :: cg_fl L (qs_B Q i) mb) (qs_C Q i) mc).length) (by omega) (by omega) hk g3
          rw [List.length_append, List.length_append, ← Nat.add_assoc, ← Nat.add_assoc, ← Nat.add_assoc, ← Nat.add_assoc]
          have e := vm_tr (vm_tr a b) d
          rw [fv (qs_B Q i) (by omega), fv (qs_C Q i) (by omega)] at e
          exact e
  have S2 := vm_settle (f := f) (x := ys_x Q i va) (c := c) (o := o) (t := t + (cg_sp Q n i L).length) n9S (by omega : qs_A Q i ≠ 9) (sg_r hg) (by omega)
  rw [List.length_append, ← Nat.add_assoc, ← Nat.add_assoc]
  exact vm_tr S1 S2
theorem sm_print (hq : qs_ok Q i) (ho : sk_oks (qs_K Q) i) (hl : lk_ok Q n i (cg_ly Q n i)) (hk : qs_K Q i = 7) (hg : sg_g cl (cg_ad Q n i) (cg_em Q n i (cg_ly Q n i) (X i))) (ht : t + 16 ≤ 90000) (hc : c < 90000) :
    ∃ k, k ≤ 15 ∧ vm_go cl t (cg_ad Q n i) (sm_S Q n i va lf) c o (t + k) (cg_ad Q n (i + 1)) (sm_S Q n (i + 1) va lf) (c + 1) (vm_pr o c (va (qs_A Q i))) := by
  have len9 := lk_len hl ho
  have a5 : qs_A Q i ≤ 5 := hq.2.1 (by omega) (by omega)
  have l13 := cg_em_len (n := n) (L := cg_ly Q n i) (x := X i) ho
  refine ⟨(cg_em Q n i (cg_ly Q n i) (X i)).length, by omega, ?_⟩
  rw [cg_ad_s Q n i (X i)]
  have eL : cg_ly Q n (i + 1) = cg_fl (cg_ly Q n i) (qs_A Q i) (qs_mv Q n i (qs_A Q i)) := by
    show cg_nl Q n i (cg_ly Q n i) = _
    unfold cg_nl; rw [if_pos hk]; unfold cg_sl; rw [if_pos hk]
  unfold sm_S
  rw [eL, cg_ls_p (by omega)]
  rw [cg_em_p hk] at hg ⊢
  have f1 := cg_fc_len (cg_ly Q n i) (qs_A Q i) (qs_mv Q n i (qs_A Q i))
  have a := vm_fetch (g := vl_f va lf (cg_ls Q i)) (c := c) (o := o) (lk_rdA hq hl hk) (sg_l hg) (by omega : t < 90000) (by omega)
  have b := vm_out (S := (cg_fl (cg_ly Q n i) (qs_A Q i) (qs_mv Q n i (qs_A Q i))).map (vl_f va lf (cg_ls Q i))) (x := vl_f va lf (cg_ls Q i) (qs_A Q i)) (o := o) (t := t + (cg_fc (cg_ly Q n i) (qs_A Q i) (qs_mv Q n i (qs_A Q i))).length) (by omega) hc (sg_cons (sg_r hg)).1
  rw [List.length_append, ← Nat.add_assoc, ← Nat.add_assoc]
  have e := vm_tr a b
  rw [vl_lt _ _ (by omega : qs_A Q i < 6)] at e
  exact e
end
end
section
theorem sm_en_of {K : Nat → Nat} {n m q p : Nat} {r : List (Nat × Nat)} (hs : sk_snd K n) (hm : m < n) (h11 : K m = 11) (h : sk_st K m = (q, p) :: r) : sk_en K n q m := by
  obtain ⟨a1, a2, a3, a4, a5⟩ := sk_inv m (sk_oks_le hs.1 (by omega)) q p r h
  subst a3
  exact ⟨a1, hm, h11, ⟨p, h⟩, a4⟩
theorem sm_pq {K : Nat → Nat} {n m q p : Nat} {r : List (Nat × Nat)} (hs : sk_snd K n) (hm : m < n) (h : sk_st K m = (q, p) :: r) (h10 : K q = 10) : p = q := by
  obtain ⟨a1, a2, a3, a4, a5⟩ := sk_inv m (sk_oks_le hs.1 (by omega)) q p r h
  rcases a5 with h | h
  · exact h.1
  · omega
theorem sm_not_in {Q : qs_T} {i o : Nat} (h : sk_oks (qs_K Q) i) (ho : o ∈ cg_ls Q i) : o < i := by
  obtain ⟨⟨p, h1⟩, _⟩ := cg_lo_mem (qs_K Q) _ ho
  exact (rm_opn i h (o, p) h1).1
def sm_I (Q : qs_T) (i : Nat) (lf : Nat → Int32) : Prop := ∀ q, q ∈ cg_ls Q i → ∃ l, 1 ≤ l ∧ l ≤ 5 ∧ lf q = nI l
def sm_n (lf : Nat → Int32) : Nat → Nat := fun q => (lf q).toNatClampNeg
section
variable {Q : qs_T} {n i : Nat} {cl : List (Int32 × Int32)} {t c : Nat} {o va lf : Nat → Int32} {X : Nat → Int32}
theorem sm_arr (ho : sk_oks (qs_K Q) i) (hl : lk_ok Q n i (cg_ly Q n i)) (hk : n ≤ i ∨ 8 ≤ qs_K Q i) (hg : sg_g cl (cg_ad Q n i) (cg_ar (cg_ly Q n i) (cg_N Q i))) (ht : t + 9 ≤ 90000) :
    vm_go cl t (cg_ad Q n i) (sm_S Q n i va lf) c o (t + (cg_ar (cg_ly Q n i) (cg_N Q i)).length) (cg_ad Q n i + (cg_ar (cg_ly Q n i) (cg_N Q i)).length) ((cg_dd (cg_N Q i) 0).map (vl_f va lf (cg_ls Q i))) c o := by
  have := cg_N_9 ho
  exact vm_arrange hl.1 (lk_full hl hk) hg (by omega)
theorem sm_if (hq : qs_ok Q i) (ho : sk_oks (qs_K Q) i) (hl : lk_ok Q n i (cg_ly Q n i)) (hk : qs_K Q i = 8) (hg : sg_g cl (cg_ad Q n i) (cg_em Q n i (cg_ly Q n i) (X i))) (ht : t + 16 ≤ 90000) {q : Nat} (hX : X i = nI q) :
    ∃ k, k ≤ 15 ∧ (0 < va (qs_A Q i) → vm_go cl t (cg_ad Q n i) (sm_S Q n i va lf) c o (t + k) (cg_ad Q n (i + 1)) ((cg_dd (cg_N Q i) 0).map (vl_f va lf (cg_ls Q i))) c o) ∧ (¬ 0 < va (qs_A Q i) → vm_go cl t (cg_ad Q n i) (sm_S Q n i va lf) c o (t + k) q ((cg_dd (cg_N Q i) 0).map (vl_f va lf (cg_ls Q i))) c o) := by
  have a5 : qs_A Q i ≤ 5 := hq.2.1 (by omega) (by omega)
  have e : cg_ad Q n (i + 1) = cg_ad Q n i + (cg_ar (cg_ly Q n i) (cg_N Q i)).length + 1 + 1 := by
    rw [cg_ad_s Q n i (X i), cg_em_b (by omega), cg_bt_8 hk, List.length_append, ← Nat.add_assoc]; rfl
  rw [cg_em_b (by omega), cg_bt_8 hk] at hg
  have N9 := cg_N_9 ho
  have al := cg_ar_len (cg_ly Q n i) (cg_N Q i)
  have A := sm_arr (va := va) (lf := lf) (c := c) (o := o) ho hl (Or.inr (by omega)) (sg_l hg) (by omega : t + 9 ≤ 90000)
  generalize hS : (cg_ar (cg_ly Q n i) (cg_N Q i)).length = a at *
  have g1 := sg_cons (sg_r hg)
  rw [hS] at g1
  have g2 := sg_cons g1.2
  have mem : qs_A Q i ∈ cg_dd (cg_N Q i) 0 := by rw [cg_dd_mem]; unfold cg_N; omega
  have B := vm_dup (S := (cg_dd (cg_N Q i) 0).map (vl_f va lf (cg_ls Q i))) (c := c) (o := o) (by omega : t + a < 90000) (by rw [List.length_map, cg_dd_len]; omega) g1.1 (vm_idx mem)
  rw [vl_lt _ _ (by omega : qs_A Q i < 6)] at B
  have h2 := g2.1
  rw [hX] at h2
  refine ⟨a + 1 + 1, by omega, fun hp => ?_, fun hp => ?_⟩
  · rw [e]
    exact vm_tr (vm_tr A B) (vm_jt (by omega) h2 hp)
  · exact vm_tr (vm_tr A B) (vm_jf (by omega) h2 hp)
theorem sm_else (ho : sk_oks (qs_K Q) i) (hl : lk_ok Q n i (cg_ly Q n i)) (hk : qs_K Q i = 9) (hg : sg_g cl (cg_ad Q n i) (cg_em Q n i (cg_ly Q n i) (X i))) (ht : t + 16 ≤ 90000) {q : Nat} (hX : X i = nI q) :
    ∃ k, k ≤ 15 ∧ vm_go cl t (cg_ad Q n i) (sm_S Q n i va lf) c o (t + k) q ((cg_dd (cg_N Q i) 0).map (vl_f va lf (cg_ls Q i))) c o := by
  rw [cg_em_b (by omega), cg_bt_9 hk] at hg
  have N9 := cg_N_9 ho
  have al := cg_ar_len (cg_ly Q n i) (cg_N Q i)
  have A := sm_arr (va := va) (lf := lf) (c := c) (o := o) ho hl (Or.inr (by omega)) (sg_l hg) (by omega : t + 9 ≤ 90000)
  have g1 := (sg_cons (sg_r hg)).1
  rw [hX] at g1
  exact ⟨(cg_ar (cg_ly Q n i) (cg_N Q i)).length + 1, by omega, vm_tr A (vm_jmp (by omega) g1)⟩
theorem sm_endif (ho : sk_oks (qs_K Q) i) (hl : lk_ok Q n i (cg_ly Q n i)) (hk : qs_K Q i = 11) {q p : Nat} {r : List (Nat × Nat)} (hst : sk_st (qs_K Q) i = (q, p) :: r) (h8 : qs_K Q q = 8) (hg : sg_g cl (cg_ad Q n i) (cg_em Q n i (cg_ly Q n i) (X i))) (ht : t + 16 ≤ 90000) :
    ∃ k, k ≤ 15 ∧ vm_go cl t (cg_ad Q n i) (sm_S Q n i va lf) c o (t + k) (cg_ad Q n (i + 1)) (sm_S Q n (i + 1) va lf) c o := by
  have e : cg_ad Q n (i + 1) = cg_ad Q n i + (cg_ar (cg_ly Q n i) (cg_N Q i)).length := by
    rw [cg_ad_s Q n i (X i), cg_em_b (by omega), cg_bt_11i hk hst h8, List.append_nil]
  rw [cg_em_b (by omega)] at hg
  have N9 := cg_N_9 ho
  have al := cg_ar_len (cg_ly Q n i) (cg_N Q i)
  have A := sm_arr (va := va) (lf := lf) (c := c) (o := o) ho hl (Or.inr (by omega)) (sg_l hg) (by omega : t + 9 ≤ 90000)
  refine ⟨(cg_ar (cg_ly Q n i) (cg_N Q i)).length, by omega, ?_⟩
  rw [e]
  have eS : sm_S Q n (i + 1) va lf = (cg_dd (cg_N Q i) 0).map (vl_f va lf (cg_ls Q i)) := by
    unfold sm_S
    rw [cg_ly_11i hk hst h8, cg_ls_11 hk hst, cg_ls_cons8 hst h8]
  rw [eS]
  exact A
theorem sm_loop (hq : qs_ok Q i) (ho : sk_oks (qs_K Q) i) (hl : lk_ok Q n i (cg_ly Q n i)) (hk : qs_K Q i = 10) (hg : sg_g cl (cg_ad Q n i) (cg_em Q n i (cg_ly Q n i) (X i))) (ht : t + 16 ≤ 90000) {q : Nat} (hX : X i = nI q) :
    ∃ k, k ≤ 14 ∧ (qs_A Q i ≠ 0 → vm_go cl t (cg_ad Q n i) (sm_S Q n i va lf) c o (t + k) (cg_ad Q n (i + 1)) (nI (qs_A Q i) :: (cg_dd (cg_N Q i) 0).map (vl_f va lf (cg_ls Q i))) c o) ∧ (qs_A Q i = 0 → vm_go cl t (cg_ad Q n i) (sm_S Q n i va lf) c o (t + k) q (nI (qs_A Q i) :: (cg_dd (cg_N Q i) 0).map (vl_f va lf (cg_ls Q i))) c o) := by
  have a5 : qs_A Q i ≤ 5 := hq.2.1 (by omega) (by omega)
  have e : cg_ad Q n (i + 1) = cg_ad Q n i + (cg_ar (cg_ly Q n i) (cg_N Q i)).length + 1 + 1 + 1 := by
    rw [cg_ad_s Q n i (X i), cg_em_b (by omega), cg_bt_10 hk, List.length_append, ← Nat.add_assoc]; rfl
  rw [cg_em_b (by omega), cg_bt_10 hk] at hg
  have N9 := cg_N_9 ho
  have al := cg_ar_len (cg_ly Q n i) (cg_N Q i)
  have A := sm_arr (va := va) (lf := lf) (c := c) (o := o) ho hl (Or.inr (by omega)) (sg_l hg) (by omega : t + 9 ≤ 90000)
  generalize hS : (cg_ar (cg_ly Q n i) (cg_N Q i)).length = a at *
  have g1 := sg_cons (sg_r hg)
  rw [hS] at g1
  have g2 := sg_cons g1.2
  have g3 := (sg_cons g2.2).1
  rw [hX] at g3
  have B := vm_push (S := (cg_dd (cg_N Q i) 0).map (vl_f va lf (cg_ls Q i))) (c := c) (o := o) (by omega : t + a < 90000) (by rw [List.length_map, cg_dd_len]; omega) g1.1
  have C := vm_dup (S := nI (qs_A Q i) :: (cg_dd (cg_N Q i) 0).map (vl_f va lf (cg_ls Q i))) (d := 0) (x := nI (qs_A Q i)) (c := c) (o := o) (by omega : t + a + 1 < 90000) (by rw [List.length_cons, List.length_map, cg_dd_len]; omega) g2.1 rfl
  refine ⟨a + 1 + 1 + 1, by omega, fun hp => ?_, fun hp => ?_⟩
  · rw [e]
    exact vm_tr (vm_tr (vm_tr A B) C) (vm_jt (by omega) g3 (nI_lt (a := 0) (by omega) (by omega)))
  · exact vm_tr (vm_tr (vm_tr A B) C) (vm_jf (by omega) g3 (by rw [hp]; decide))
-- the DROP at a loop's end
theorem sm_drop (hk : qs_K Q i = 11) {q p : Nat} {r : List (Nat × Nat)} (hst : sk_st (qs_K Q) i = (q, p) :: r) (h10 : qs_K Q q = 10) (hg : sg_g cl (cg_ad Q n i) (cg_em Q n i (cg_ly Q n i) (X i))) {x : Int32} {S : List Int32} (ht : t < 90000) :
    vm_go cl t (cg_ad Q n (i + 1) - 1) (x :: S) c o (t + 1) (cg_ad Q n (i + 1)) S c o := by
  have e : cg_ad Q n (i + 1) = cg_ad Q n i + (cg_ar (cg_ly Q n i) (cg_N Q i)).length + 1 + 1 + 1 + 1 := by
    rw [cg_ad_s Q n i (X i), cg_em_b (by omega), cg_bt_11l hk hst h10, List.length_append, ← Nat.add_assoc]; rfl
  rw [cg_em_b (by omega), cg_bt_11l hk hst h10] at hg
  have g4 := (sg_cons (sg_cons (sg_cons (sg_cons (sg_r hg)).2).2).2).1
  rw [e]
  exact vm_drop ht g4
theorem sm_endloop (ho : sk_oks (qs_K Q) i) (hl : lk_ok Q n i (cg_ly Q n i)) (hk : qs_K Q i = 11) {q p : Nat} {r : List (Nat × Nat)} (hst : sk_st (qs_K Q) i = (q, p) :: r) (h10 : qs_K Q q = 10) (hg : sg_g cl (cg_ad Q n i) (cg_em Q n i (cg_ly Q n i) (X i))) (hgq : sg_g cl (cg_ad Q n q) (cg_em Q n q (cg_ly Q n q) (X q))) (ht : t + 16 ≤ 90000) (hX : X i = nI (cg_ad Q n (q + 1) - 2)) (hXq : X q = nI (cg_ad Q n (i + 1) - 1)) {l : Nat} (h5 : l < 5) (hlf : lf q = nI (l + 1)) :
    ∃ k, k ≤ 14 ∧ (0 < l → vm_go cl t (cg_ad Q n i) (sm_S Q n i va lf) c o (t + k) (cg_ad Q n (q + 1)) (nI l :: (cg_dd (6 + (cg_lo (qs_K Q) r).length) 0).map (vl_f va lf (cg_lo (qs_K Q) r))) c o) ∧ (l = 0 → vm_go cl t (cg_ad Q n i) (sm_S Q n i va lf) c o (t + k) (cg_ad Q n (i + 1) - 1) (nI l :: (cg_dd (6 + (cg_lo (qs_K Q) r).length) 0).map (vl_f va lf (cg_lo (qs_K Q) r))) c o) := by
  have eq : cg_ad Q n (q + 1) = cg_ad Q n q + (cg_ar (cg_ly Q n q) (cg_N Q q)).length + 1 + 1 + 1 := by
    rw [cg_ad_s Q n q (X q), cg_em_b (by omega), cg_bt_10 h10, List.length_append, ← Nat.add_assoc]; rfl
  rw [cg_em_b (by omega), cg_bt_11l hk hst h10] at hg
  rw [cg_em_b (by omega), cg_bt_10 h10] at hgq
  have N9 := cg_N_9 ho
  have al := cg_ar_len (cg_ly Q n i) (cg_N Q i)
  have A := sm_arr (va := va) (lf := lf) (c := c) (o := o) ho hl (Or.inr (by omega)) (sg_l hg) (by omega : t + 9 ≤ 90000)
  have els := cg_ls_cons hst h10
  have eN : cg_N Q i = 6 + (cg_lo (qs_K Q) r).length + 1 := by unfold cg_N; rw [els]; rfl
  rw [els] at A
  have eS : (cg_dd (cg_N Q i) 0).map (vl_f va lf (q :: cg_lo (qs_K Q) r)) = nI (l + 1) :: (cg_dd (6 + (cg_lo (qs_K Q) r).length) 0).map (vl_f va lf (cg_lo (qs_K Q) r)) := by
    rw [eN, vl_push (lf := lf) (fun _ _ => rfl), hlf]
  rw [eS] at A
  have len : ((cg_dd (6 + (cg_lo (qs_K Q) r).length) 0).map (vl_f va lf (cg_lo (qs_K Q) r))).length ≤ 9 := by
    rw [List.length_map, cg_dd_len]; omega
  generalize (cg_dd (6 + (cg_lo (qs_K Q) r).length) 0).map (vl_f va lf (cg_lo (qs_K Q) r)) = S at *
  have g1 := sg_cons (sg_r hg)
  have g2 := sg_cons g1.2
  have g3 := (sg_cons g2.2).1
  rw [hX] at g3
  generalize (cg_ar (cg_ly Q n i) (cg_N Q i)).length = a at *
  have B := vm_push (S := nI (l + 1) :: S) (c := c) (o := o) (by omega : t + a < 90000) (by rw [List.length_cons]; omega) g1.1
  have C := vm_op (S := S) (k := 2) (p := nI (l + 1)) (q := -1) (c := c) (o := o) (by omega : t + a + 1 < 90000) (by omega) (by omega) g2.1
  have e2 : vm_cp 2 (nI (l + 1)) (-1) = nI l := pk_m1 l
  rw [e2] at C
  have D := vm_jmp (S := nI l :: S) (c := c) (o := o) (by omega : t + a + 1 + 1 < 90000) g3
  have k1 := sg_cons (sg_cons (sg_r hgq)).2
  have k2 := (sg_cons k1.2).1
  rw [hXq] at k2
  have e3 : cg_ad Q n (q + 1) - 2 = cg_ad Q n q + (cg_ar (cg_ly Q n q) (cg_N Q q)).length + 1 := by omega
  rw [e3] at D
  have E := vm_dup (S := nI l :: S) (d := 0) (x := nI l) (c := c) (o := o) (by omega : t + a + 1 + 1 + 1 < 90000) (by rw [List.length_cons]; omega) k1.1 rfl
  have F := vm_tr (vm_tr (vm_tr (vm_tr A B) C) D) E
  refine ⟨a + 1 + 1 + 1 + 1 + 1, by omega, fun hp => ?_, fun hp => ?_⟩
  · rw [eq]
    exact vm_tr F (vm_jt (by omega) k2 (nI_lt (a := 0) hp (by omega)))
  · exact vm_tr F (vm_jf (by omega) k2 (by rw [hp]; decide))
end
section
variable {Q : qs_T} {n i : Nat} {cl : List (Int32 × Int32)} {t c u : Nat} {o va lf : Nat → Int32} {X : Nat → Int32}
def sm_goal (Q : qs_T) (n i : Nat) (cl : List (Int32 × Int32)) (t c u : Nat) (o va lf : Nat → Int32) : Prop :=
  ∃ k i' va' lf' c' o', k ≤ 15 ∧ i' ≤ n ∧ sm_I Q i' lf' ∧ c' ≤ c + 1 ∧ rm_at (qs_K Q) n (sm_n lf') i' < rm_at (qs_K Q) n (sm_n lf) i ∧ vm_go cl t (cg_ad Q n i) (sm_S Q n i va lf) c o (t + k) (cg_ad Q n i') (sm_S Q n i' va' lf') c' o' ∧ ∀ Z, ys_R Q n Z → Z (u + 1) i' va' lf' c' o' → Z u i va lf c o
theorem sm_I_eq {i' : Nat} (h : sm_I Q i lf) (e : cg_ls Q i' = cg_ls Q i) : sm_I Q i' lf := by
  unfold sm_I at h ⊢; rw [e]; exact h
theorem sm_step (hs : sk_snd (qs_K Q) n) (hq : ∀ j, j < n → qs_ok Q j) (hco : cg_co Q n n cl X) (hi : i < n) (hI : sm_I Q i lf) (ht : t + 16 ≤ 90000) (hu : u < 5000) (hc : c < 90000) : sm_goal Q n i cl t c u o va lf := by
  have ho : sk_oks (qs_K Q) i := sk_oks_le hs.1 (by omega)
  have hl : lk_ok Q n i (cg_ly Q n i) := lk_ly i (fun j hj => hq j (by omega)) ho
  have hqi := hq i hi
  have hg := hco.1 i hi
  by_cases k6 : qs_K Q i ≤ 6
  · obtain ⟨k, hk, G⟩ := sm_plain (c := c) (o := o) (va := va) (lf := lf) hqi ho hl k6 hg ht
    exact ⟨k, i + 1, _, lf, c, o, hk, by omega, sm_I_eq hI (cg_ls_p (by omega)), by omega, rm_plain hs hi (by omega) (by omega) (by omega), G, fun Z hZ h => hZ.1 u i va lf c o hu hi k6 h⟩
  by_cases k7 : qs_K Q i = 7
  · obtain ⟨k, hk, G⟩ := sm_print (c := c) (o := o) (va := va) (lf := lf) hqi ho hl k7 hg ht hc
    exact ⟨k, i + 1, va, lf, c + 1, _, hk, by omega, sm_I_eq hI (cg_ls_p (by omega)), by omega, rm_plain hs hi (by omega) (by omega) (by omega), G, fun Z hZ h => hZ.2.1 u i va lf c o hu hi k7 hc h⟩
  by_cases k8 : qs_K Q i = 8
  · obtain ⟨m, he, m1, b1, b2, b3, b4⟩ := sk_ene hs hi (Or.inl k8)
    have m1n : m1 < n := by have := he.2.1; omega
    have k911 : qs_K Q m1 = 9 ∨ qs_K Q m1 = 11 := by
      rcases b4 with h | h
      · exact Or.inr h.2
      · exact Or.inl h.1
    have hX : X i = nI (cg_ad Q n (m1 + 1)) := by
      rw [hco.2.1 i m1 m1n ⟨k911, i, _, b3⟩]; unfold cg_tg; rw [if_neg (by omega)]
    obtain ⟨k, hk, G1, G2⟩ := sm_if (c := c) (o := o) (va := va) (lf := lf) hqi ho hl k8 hg ht hX
    by_cases hp : 0 < va (qs_A Q i)
    · have eS : sm_S Q n (i + 1) va lf = (cg_dd (cg_N Q i) 0).map (vl_f va lf (cg_ls Q i)) := by
        unfold sm_S; rw [cg_ly_89 (Or.inl k8), cg_ls_8 k8]
      refine ⟨k, i + 1, va, lf, c, o, hk, by omega, sm_I_eq hI (cg_ls_8 k8), by omega, rm_if hs hi k8, ?_, fun Z hZ h => hZ.2.2.1 u i va lf c o hu hi k8 hp h⟩
      rw [eS]; exact G1 hp
    · have els : cg_ls Q m1 = cg_ls Q i := cg_ls_cons8 b3 k8
      have els1 : cg_ls Q (m1 + 1) = cg_ls Q i := by
        rcases k911 with h | h
        · rw [cg_ls_9 h, els]
        · exact cg_ls_11 h b3
      have eN : cg_N Q m1 = cg_N Q i := by unfold cg_N; rw [els]
      have eS : sm_S Q n (m1 + 1) va lf = (cg_dd (cg_N Q i) 0).map (vl_f va lf (cg_ls Q i)) := by
        unfold sm_S
        rw [els1]
        rcases k911 with h | h
        · rw [cg_ly_89 (Or.inr h), eN]
        · rw [cg_ly_11i h b3 k8, eN]
      refine ⟨k, m1 + 1, va, lf, c, o, hk, by omega, sm_I_eq hI els1, by omega, ?_, ?_, fun Z hZ h => hZ.2.2.2.1 u i va lf c o m1 hu hi k8 hp b1 m1n b3 k911 h⟩
      · rcases b4 with h | h
        · rw [h.1]; exact rm_skip hs hi (Or.inl k8) he
        · exact rm_else hs hi k8 he h.1 b1 h.2.2.1 b3
      · rw [eS]; exact G2 hp
  by_cases k9 : qs_K Q i = 9
  · obtain ⟨q, r, b1, b2⟩ := (hs.1 i hi).2.1 k9
    have T := sk_inv i ho q q r b1
    obtain ⟨m, c1, c2, c3, c4, c5⟩ := sk_nxe hs (e := (q, i)) (r := r) (n - (i + 1)) (i + 1) (by omega) ⟨[], by rw [sk_s9 k9, b1]; rfl⟩
    have k11 : qs_K Q m = 11 := by
      rcases c4 with h | h
      · obtain ⟨o2, r2, d1, d2⟩ := (hs.1 m c2).2.1 h
        rw [c3] at d1
        injection d1 with d3
        injection d3 with d4 d5
        have := T.1
        omega
      · exact h
    have he : sk_en (qs_K Q) n q m := sm_en_of hs c2 k11 c3
    have hX : X i = nI (cg_ad Q n (m + 1)) := by
      rw [hco.2.1 i m c2 ⟨Or.inr k11, q, r, c3⟩]; unfold cg_tg; rw [if_neg (by omega)]
    obtain ⟨k, hk, G⟩ := sm_else (c := c) (o := o) (va := va) (lf := lf) ho hl k9 hg ht hX
    have e1 : cg_ls Q i = cg_lo (qs_K Q) r := cg_ls_cons8 b1 b2
    have e2 : cg_ls Q m = cg_lo (qs_K Q) r := cg_ls_cons8 c3 b2
    have e3 : cg_ls Q (m + 1) = cg_ls Q i := by rw [cg_ls_11 k11 c3, e1]
    have eS : sm_S Q n (m + 1) va lf = (cg_dd (cg_N Q i) 0).map (vl_f va lf (cg_ls Q i)) := by
      unfold sm_S
      rw [e3, cg_ly_11i k11 c3 b2]
      unfold cg_N; rw [e1, e2]
    refine ⟨k, m + 1, va, lf, c, o, hk, by omega, sm_I_eq hI e3, by omega, rm_out hs hi b1 he (fun _ _ => rfl), ?_, fun Z hZ h => hZ.2.2.2.2.1 u i va lf c o q r m hu hi k9 b1 he h⟩
    rw [eS]; exact G
  by_cases k10 : qs_K Q i = 10
  · have a5 : qs_A Q i ≤ 5 := hqi.2.1 (by omega) (by omega)
    obtain ⟨m, he, m1, b1, b2, b3, b4⟩ := sk_ene hs hi (Or.inr k10)
    have b5 : m1 = m ∧ qs_K Q m1 = 11 := by
      rcases b4 with h | h
      · exact h
      · omega
    obtain ⟨rfl, k11⟩ := b5
    have hX : X i = nI (cg_ad Q n (m1 + 1) - 1) := by
      rw [hco.2.1 i m1 he.2.1 ⟨Or.inr k11, i, _, b3⟩]; unfold cg_tg; rw [if_pos k10]
    obtain ⟨k, hk, G1, G2⟩ := sm_loop (c := c) (o := o) (va := va) (lf := lf) hqi ho hl k10 hg ht hX
    have nin : ∀ q, q ∈ cg_ls Q i → q ≠ i := fun q h e => by have := sm_not_in ho h; omega
    by_cases a0 : qs_A Q i = 0
    · have e3 : cg_ls Q (m1 + 1) = cg_ls Q i := cg_ls_11 k11 b3
      have e4 : cg_ls Q m1 = i :: cg_ls Q i := cg_ls_cons b3 k10
      have eS : sm_S Q n (m1 + 1) va (upd lf i 0) = (cg_dd (cg_N Q i) 0).map (vl_f va lf (cg_ls Q i)) := by
        unfold sm_S
        rw [e3, cg_ly_11l k11 b3 k10]
        have eN : cg_N Q m1 - 1 = cg_N Q i := by unfold cg_N; rw [e4]; simp
        rw [eN]
        exact List.map_congr_left (fun v _ => vl_lf _ v (fun q h => pk_un (nin q h)))
      have D := sm_drop (t := t + k) (c := c) (o := o) (x := nI (qs_A Q i)) (S := (cg_dd (cg_N Q i) 0).map (vl_f va lf (cg_ls Q i))) k11 b3 k10 (hco.1 m1 he.2.1) (by omega)
      refine ⟨k + 1, m1 + 1, va, upd lf i 0, c, o, by omega, by have := he.2.1; omega, ?_, by omega, ?_, ?_, fun Z hZ h => hZ.2.2.2.2.2.1 u i va lf c o m1 hu hi k10 a0 he h⟩
      · intro q h
        rw [e3] at h
        rw [pk_un (nin q h)]; exact hI q h
      · have : rm_at (qs_K Q) n (sm_n (upd lf i 0)) (m1 + 1) = rm_at (qs_K Q) n (sm_n lf) (m1 + 1) := by
          unfold rm_at
          refine rm_congr _ _ (fun e h => ?_)
          rw [sk_en_tl he] at h
          have := (rm_opn i ho e h).1
          show (upd lf i 0 e.1).toNatClampNeg = (lf e.1).toNatClampNeg
          rw [pk_un (by omega)]
        rw [this]; exact rm_skip hs hi (Or.inr k10) he
      · rw [eS]; exact vm_tr (G2 a0) D
    · have eS : sm_S Q n (i + 1) va (upd lf i (nI (qs_A Q i))) = nI (qs_A Q i) :: (cg_dd (cg_N Q i) 0).map (vl_f va lf (cg_ls Q i)) := by
        unfold sm_S
        rw [cg_ls_10 k10, cg_ly_10 k10]
        unfold cg_N
        rw [vl_push (lf := lf) (fun q h => pk_un (nin q h)), pk_us]
      refine ⟨k, i + 1, va, upd lf i (nI (qs_A Q i)), c, o, by omega, by omega, ?_, by omega, ?_, ?_, fun Z hZ h => hZ.2.2.2.2.2.2.1 u i va lf c o hu hi k10 a0 h⟩
      · intro q h
        rw [cg_ls_10 k10] at h
        rcases List.mem_cons.mp h with e | h
        · subst e; exact ⟨qs_A Q q, by omega, by omega, pk_us⟩
        · rw [pk_un (nin q h)]; exact hI q h
      · have e5 : sm_n (upd lf i (nI (qs_A Q i))) i = qs_A Q i := by
          show (upd lf i (nI (qs_A Q i)) i).toNatClampNeg = _
          rw [pk_us, nI_clamp (by omega)]
        refine rm_loop hs hi k10 (fun q h => ?_) (by omega) (by omega)
        show (upd lf i _ q).toNatClampNeg = (lf q).toNatClampNeg
        rw [pk_un h]
      · rw [eS]; exact G1 a0
  · have k11 : qs_K Q i = 11 := by have := hqi.1; omega
    obtain ⟨q, p, r, b1⟩ := (hs.1 i hi).2.2 k11
    have T := sk_inv i ho q p r b1
    have qi : q < i := T.1
    rcases T.2.1 with q8 | q10
    · obtain ⟨k, hk, G⟩ := sm_endif (c := c) (o := o) (va := va) (lf := lf) ho hl k11 b1 q8 hg ht
      have e3 : cg_ls Q (i + 1) = cg_ls Q i := by rw [cg_ls_11 k11 b1, cg_ls_cons8 b1 q8]
      exact ⟨k, i + 1, va, lf, c, o, hk, by omega, sm_I_eq hI e3, by omega, rm_out hs hi b1 (sm_en_of hs hi k11 b1) (fun _ _ => rfl), G, fun Z hZ h => hZ.2.2.2.2.2.2.2.1 u i va lf c o q p r hu hi k11 b1 q8 h⟩
    · have pq : p = q := sm_pq hs hi b1 q10
      subst pq
      have els : cg_ls Q i = p :: cg_lo (qs_K Q) r := cg_ls_cons b1 q10
      obtain ⟨l', l1, l5, hlf⟩ := hI p (by rw [els]; exact List.mem_cons_self)
      obtain ⟨l, rfl⟩ : ∃ l, l' = l + 1 := ⟨l' - 1, by omega⟩
      have hX : X i = nI (cg_ad Q n (p + 1) - 2) := hco.2.2 i p p r hi k11 b1 q10
      have hXq : X p = nI (cg_ad Q n (i + 1) - 1) := by
        rw [hco.2.1 p i hi ⟨Or.inr k11, p, r, b1⟩]; unfold cg_tg; rw [if_pos q10]
      obtain ⟨k, hk, G1, G2⟩ := sm_endloop (c := c) (o := o) (va := va) (lf := lf) ho hl k11 b1 q10 hg (hco.1 p (by omega)) ht hX hXq (by omega : l < 5) hlf
      have hop : sk_oks (qs_K Q) p := sk_oks_le hs.1 (by omega)
      have elp : cg_ls Q p = cg_lo (qs_K Q) r := by unfold cg_ls; rw [T.2.2.1]
      have nin : ∀ q, q ∈ cg_lo (qs_K Q) r → q ≠ p := fun q h e => by
        rw [← elp] at h
        have := sm_not_in hop h; omega
      have hg2 : ∀ q, q ≠ p → sm_n (upd lf p (nI l)) q = sm_n lf q := fun q h => by
        show (upd lf p _ q).toNatClampNeg = (lf q).toNatClampNeg
        rw [pk_un h]
      have oldI : ∀ q, q ∈ cg_lo (qs_K Q) r → ∃ l2, 1 ≤ l2 ∧ l2 ≤ 5 ∧ upd lf p (nI l) q = nI l2 := fun q h => by
        obtain ⟨l2, x1, x2, x3⟩ := hI q (by rw [els]; exact List.mem_cons_of_mem _ h)
        exact ⟨l2, x1, x2, by rw [pk_un (nin q h)]; exact x3⟩
      by_cases l0 : l = 0
      · have eS : sm_S Q n (i + 1) va (upd lf p (nI l)) = (cg_dd (6 + (cg_lo (qs_K Q) r).length) 0).map (vl_f va lf (cg_lo (qs_K Q) r)) := by
          unfold sm_S
          rw [cg_ls_11 k11 b1, cg_ly_11l k11 b1 q10]
          have eN : cg_N Q i - 1 = 6 + (cg_lo (qs_K Q) r).length := by unfold cg_N; rw [els]; simp
          rw [eN]
          exact List.map_congr_left (fun v _ => vl_lf _ v (fun q h => pk_un (nin q h)))
        have D := sm_drop (t := t + k) (c := c) (o := o) (x := nI l) (S := (cg_dd (6 + (cg_lo (qs_K Q) r).length) 0).map (vl_f va lf (cg_lo (qs_K Q) r))) k11 b1 q10 hg (by omega)
        refine ⟨k + 1, i + 1, va, upd lf p (nI l), c, o, by omega, by omega, ?_, by omega, rm_out hs hi b1 (sm_en_of hs hi k11 b1) hg2, ?_, fun Z hZ h => hZ.2.2.2.2.2.2.2.2 u i va lf c o p p r l hu hi k11 b1 q10 hlf (by omega) (fun _ => h) (fun z => by omega)⟩
        · intro q h
          rw [cg_ls_11 k11 b1] at h
          exact oldI q h
        · rw [eS]; exact vm_tr (G2 l0) D
      · have eS : sm_S Q n (p + 1) va (upd lf p (nI l)) = nI l :: (cg_dd (6 + (cg_lo (qs_K Q) r).length) 0).map (vl_f va lf (cg_lo (qs_K Q) r)) := by
          unfold sm_S
          rw [cg_ls_10 q10, cg_ly_10 q10]
          unfold cg_N
          rw [elp, vl_push (lf := lf) (fun q h => pk_un (nin q h)), pk_us]
        refine ⟨k, p + 1, va, upd lf p (nI l), c, o, by omega, by omega, ?_, by omega, ?_, ?_, fun Z hZ h => hZ.2.2.2.2.2.2.2.2 u i va lf c o p p r l hu hi k11 b1 q10 hlf (by omega) (fun z => absurd z l0) (fun _ => h)⟩
        · intro q h
          rw [cg_ls_10 q10, elp] at h
          rcases List.mem_cons.mp h with e | h
          · subst e; exact ⟨l, by omega, by omega, pk_us⟩
          · exact oldI q h
        · have e6 : sm_n lf p = l + 1 := by
            show (lf p).toNatClampNeg = _
            rw [hlf, nI_clamp (by omega)]
          have e7 : sm_n (upd lf p (nI l)) p = l := by
            show (upd lf p (nI l) p).toNatClampNeg = _
            rw [pk_us, nI_clamp (by omega)]
          exact rm_back hs hi b1 k11 q10 hg2 (by omega) (by omega)
        · rw [eS]; exact G1 (by omega)
theorem sm_all (hs : sk_snd (qs_K Q) n) (hq : ∀ j, j < n → qs_ok Q j) (hco : cg_co Q n n cl X) : ∀ d i va lf c o t u, rm_at (qs_K Q) n (sm_n lf) i ≤ d → i ≤ n → sm_I Q i lf → t ≤ 15 * u → u + rm_at (qs_K Q) n (sm_n lf) i ≤ 5000 → c ≤ u →
    ∃ t' u' va' lf' c' o', t' ≤ 15 * u' ∧ u' ≤ 5000 ∧ c' ≤ u' ∧ vm_go cl t (cg_ad Q n i) (sm_S Q n i va lf) c o t' (cg_ad Q n n) (sm_S Q n n va' lf') c' o' ∧ ∀ Z, ys_R Q n Z → Z u' n va' lf' c' o' → Z u i va lf c o := by
  intro d
  induction d with
  | zero =>
    intro i va lf c o t u hd hi hI ht hu hc
    by_cases e : i = n
    · subst e; exact ⟨t, u, va, lf, c, o, ht, by omega, hc, vm_rf, fun Z _ h => h⟩
    · by_cases hu5 : u < 5000
      · obtain ⟨k, i', va', lf', c', o', a1, a2, a3, a4, a5, a6, a7⟩ := sm_step (t := t) (c := c) (u := u) (o := o) (va := va) hs hq hco (by omega : i < n) hI (by omega) hu5 (by omega)
        omega
      · obtain ⟨k, i', va', lf', c', o', a1, a2, a3, a4, a5, a6, a7⟩ := sm_step (t := 0) (c := 0) (u := 0) (o := o) (va := va) hs hq hco (by omega : i < n) hI (by omega) (by omega) (by omega)
        omega
  | succ d ih =>
    intro i va lf c o t u hd hi hI ht hu hc
    by_cases e : i = n
    · subst e; exact ⟨t, u, va, lf, c, o, ht, by omega, hc, vm_rf, fun Z _ h => h⟩
    · have pos : 0 < rm_at (qs_K Q) n (sm_n lf) i := by
        obtain ⟨k, i', va', lf', c', o', a1, a2, a3, a4, a5, a6, a7⟩ := sm_step (t := 0) (c := 0) (u := 0) (o := o) (va := va) hs hq hco (by omega : i < n) hI (by omega) (by omega) (by omega)
        omega
      obtain ⟨k, i', va', lf', c', o', a1, a2, a3, a4, a5, a6, a7⟩ := sm_step (t := t) (c := c) (u := u) (o := o) (va := va) hs hq hco (by omega : i < n) hI (by omega) (by omega) (by omega)
      obtain ⟨t2, u2, va2, lf2, c2, o2, b1, b2, b3, b4, b5⟩ := ih i' va' lf' c' o' (t + k) (u + 1) (by omega) a2 a3 (by omega) (by omega) (by omega)
      exact ⟨t2, u2, va2, lf2, c2, o2, b1, b2, b3, vm_tr a6 b4, fun Z hZ h => a7 Z hZ (b5 Z hZ h)⟩
-- the outcome of a run, for both sides
theorem sm_run (hs : sk_snd (qs_K Q) n) (hq : ∀ j, j < n → qs_ok Q j) (hn : n ≤ 40) (hc : cg_code Q n cl) (va lf o : Nat → Int32) :
    ∃ t' u' va' lf' c' o', t' < 90000 ∧ u' ≤ 5000 ∧ c' ≤ 5000 ∧ vm_go cl 0 0 ((cg_dd 6 0).map va) 0 o t' cl.length ((cg_dd 6 0).map va') c' o' ∧ ∀ Z, ys_R Q n Z → Z u' n va' lf' c' o' → Z 0 0 va lf 0 o := by
  obtain ⟨h1, h2, X, h3⟩ := hc
  have m0 : rm_at (qs_K Q) n (sm_n lf) 0 = n * 125 := by unfold rm_at; rfl
  obtain ⟨t', u', va', lf', c', o', b1, b2, b3, b4, b5⟩ := sm_all hs hq h3 5000 0 va lf 0 o 0 0 (by omega) (by omega) (fun q h => by simp [cg_ls, sk_st, cg_lo] at h) (by omega) (by omega) (by omega)
  have lsn : cg_ls Q n = [] := by unfold cg_ls; rw [hs.2]; rfl
  have eN : cg_N Q n = 6 := by unfold cg_N; rw [lsn]; rfl
  have F := sm_arr (va := va') (lf := lf') (c := c') (o := o') (t := t') (cl := cl) hs.1 (lk_ly n (fun j hj => hq j hj) hs.1) (Or.inl (Nat.le_refl n)) (by rw [eN]; exact h2) (by omega)
  rw [eN, lsn, ← h1] at F
  have al := cg_ar_len (cg_ly Q n n) 6
  refine ⟨_, u', va', lf', c', o', ?_, b2, by omega, vm_tr b4 F, b5⟩
  omega
end
end
section
-- lists for arrays: the top first
def re_S (S : List Int32) (d : Int32) (st : Nat → Int32) : Prop := S.length ≤ 16 ∧ d = nI S.length ∧ ∀ t x, S[t]? = some x → st (S.length - 1 - t) = x
def re_C (cl : List (Int32 × Int32)) (ce : Int32) (op od : Nat → Int32) : Prop := cl.length ≤ 560 ∧ ce = nI cl.length ∧ ∀ t x, cl[t]? = some x → op t = x.1 ∧ od t = x.2
theorem re_lt {α : Type} {S : List α} {t : Nat} {x : α} (h : S[t]? = some x) : t < S.length := (List.getElem?_eq_some_iff.mp h).1
theorem re_push {S : List Int32} {d : Int32} {st : Nat → Int32} (h : re_S S d st) (hl : S.length < 16) (x : Int32) : re_S (x :: S) (nI (S.length + 1)) (upd st S.length x) := by
  obtain ⟨h1, h2, h3⟩ := h
  refine ⟨by simp only [List.length_cons]; omega, rfl, ?_⟩
  intro t y hy
  cases t with
  | zero =>
    simp only [List.getElem?_cons_zero] at hy
    injection hy with hy
    show upd st S.length x (S.length + 1 - 1 - 0) = y
    rw [show S.length + 1 - 1 - 0 = S.length by omega, pk_us, hy]
  | succ t =>
    simp only [List.getElem?_cons_succ] at hy
    have hlt := re_lt hy
    show upd st S.length x (S.length + 1 - 1 - (t + 1)) = y
    rw [pk_un (by omega), show S.length + 1 - 1 - (t + 1) = S.length - 1 - t by omega]
    exact h3 t y hy
theorem re_tail {S : List Int32} {x : Int32} {d : Int32} {st : Nat → Int32} (h : re_S (x :: S) d st) : re_S S (nI S.length) st ∧ d - 1 = nI S.length ∧ st S.length = x ∧ S.length < 16 := by
  obtain ⟨h1, h2, h3⟩ := h
  simp only [List.length_cons] at h1
  refine ⟨⟨by omega, rfl, ?_⟩, ?_, ?_, by omega⟩
  · intro t y hy
    have hlt := re_lt hy
    have := h3 (t + 1) y (by simpa using hy)
    rw [show (x :: S).length - 1 - (t + 1) = S.length - 1 - t by simp only [List.length_cons]; omega] at this
    exact this
  · rw [h2]; exact nI_pred _
  · have := h3 0 x rfl
    rw [show (x :: S).length - 1 - 0 = S.length by simp] at this
    exact this
theorem re_set {S : List Int32} {x : Int32} {d : Int32} {st : Nat → Int32} (h : re_S (x :: S) d st) (y : Int32) : re_S (y :: S) d (upd st S.length y) := by
  obtain ⟨a, b, c, e⟩ := re_tail h
  have := re_push a e y
  have hd : d = nI (S.length + 1) := h.2.1
  rw [hd]; exact this
theorem re_get {S : List Int32} {d : Int32} {st : Nat → Int32} (h : re_S S d st) {t : Nat} {x : Int32} (hx : S[t]? = some x) : (d - 1) - nI t = nI (S.length - 1 - t) ∧ st (S.length - 1 - t) = x ∧ S.length - 1 - t < 16 := by
  obtain ⟨h1, h2, h3⟩ := h
  have hlt := re_lt hx
  refine ⟨?_, h3 t x hx, by omega⟩
  rw [h2]
  have e : S.length = (S.length - 1) + 1 := by omega
  rw [show nI S.length - 1 = nI (S.length - 1) by conv => lhs; rw [e]
                                                  exact nI_pred _]
  exact pk_sub (by omega)
theorem re_pull {S : List Int32} {d : Int32} {st st' : Nat → Int32} (h : re_S S d st) {t : Nat} {x : Int32} (hx : S[t]? = some x) (e1 : ∀ p, p < S.length - 1 - t → st' p = st p) (e2 : ∀ p, S.length - 1 - t ≤ p → p < S.length - 1 → st' p = st (p + 1)) (e3 : st' (S.length - 1) = x) : re_S (x :: S.eraseIdx t) d st' := by
  obtain ⟨h1, h2, h3⟩ := h
  have hlt := re_lt hx
  have len : (x :: S.eraseIdx t).length = S.length := by
    rw [List.length_cons, List.length_eraseIdx_of_lt hlt]; omega
  refine ⟨by omega, by rw [len]; exact h2, ?_⟩
  intro q y hy
  rw [len]
  cases q with
  | zero =>
    simp only [List.getElem?_cons_zero] at hy
    injection hy with hy
    rw [← hy]; exact e3
  | succ q =>
    simp only [List.getElem?_cons_succ] at hy
    rw [List.getElem?_eraseIdx] at hy
    by_cases c : q < t
    · rw [if_pos c] at hy
      rw [e2 _ (by omega) (by omega), show S.length - 1 - (q + 1) + 1 = S.length - 1 - q by omega]
      exact h3 q y hy
    · rw [if_neg c] at hy
      have := re_lt hy
      rw [e1 _ (by omega)]
      exact h3 (q + 1) y hy
theorem re_write {cl : List (Int32 × Int32)} {ce : Int32} {op od : Nat → Int32} (h : re_C cl ce op od) (hl : cl.length < 560) (x y : Int32) : re_C (cl ++ [(x, y)]) (nI (cl.length + 1)) (upd op cl.length x) (upd od cl.length y) := by
  obtain ⟨h1, h2, h3⟩ := h
  have len : (cl ++ [(x, y)]).length = cl.length + 1 := by simp
  refine ⟨by omega, by rw [len], ?_⟩
  intro t z hz
  by_cases c : t < cl.length
  · rw [List.getElem?_append_left c] at hz
    rw [pk_un (by omega), pk_un (by omega)]
    exact h3 t z hz
  · have hlt := re_lt hz
    rw [len] at hlt
    have e : t = cl.length := by omega
    subst e
    rw [List.getElem?_append_right (by omega)] at hz
    simp at hz
    rw [pk_us, pk_us, ← hz]
    exact ⟨rfl, rfl⟩
theorem re_patch {cl : List (Int32 × Int32)} {ce : Int32} {op od : Nat → Int32} (h : re_C cl ce op od) {q : Nat} {k x : Int32} (hq : cl[q]? = some (k, x)) (y : Int32) : re_C (cl.set q (k, y)) ce op (upd od q y) := by
  obtain ⟨h1, h2, h3⟩ := h
  refine ⟨by rw [List.length_set]; exact h1, by rw [List.length_set]; exact h2, ?_⟩
  intro t z hz
  have hql := re_lt hq
  by_cases c : t = q
  · subst c
    rw [List.getElem?_set_self hql] at hz
    injection hz with hz
    rw [pk_us, ← hz]
    exact ⟨(h3 t (k, x) hq).1, rfl⟩
  · rw [List.getElem?_set_ne (by omega)] at hz
    rw [pk_un c]
    exact h3 t z hz
theorem re_Cx {cl : List (Int32 × Int32)} {ce : Int32} {op od : Nat → Int32} (h : re_C cl ce op od) {t : Nat} {x y : Int32} (hx : cl[t]? = some (x, y)) : t < cl.length ∧ t < 560 ∧ op t = x ∧ od t = y := by
  have := re_lt hx
  exact ⟨this, by have := h.1; omega, (h.2.2 t _ hx).1, (h.2.2 t _ hx).2⟩
end
section
section
variable {f_length f_compiled f_isSound f_codeEnd f_layoutDepth f_openLoops f_openBlocks f_depth f_printedCount : Int32} {a_kind a_first a_second a_third a_variables a_operation a_operand a_layout a_blockKind a_blockPatch a_stack a_printedValues : Nat → Int32}
-- the operand stack's pull
theorem xp_23 {post : SX → Prop} {x2 : Int32} {e m : Nat} (hd : f_depth = nI (e + 1)) (he : e < 16) (st0 : Nat → Int32) (hm : m ≤ e)
    (K : ∀ st', (∀ p, p < m → st' p = st0 p) → (∀ p, m ≤ p → p < e → st' p = st0 (p + 1)) → st' e = x2 → post (f_length, f_compiled, f_isSound, f_codeEnd, f_layoutDepth, f_openLoops, f_openBlocks, f_depth, f_printedCount, a_kind, a_first, a_second, a_third, a_variables, a_operation, a_operand, a_layout, a_blockKind, a_blockPatch, st', a_printedValues)) :
    ∀ k j a_stack, j + k = e → m ≤ j → (∀ p, p < m → a_stack p = st0 p) → (∀ p, m ≤ p → p < j → a_stack p = st0 (p + 1)) → (∀ p, j ≤ p → a_stack p = st0 p) → ∀ n, k < n → wX_pull_23 post x2 f_length f_compiled f_isSound f_codeEnd f_layoutDepth f_openLoops f_openBlocks f_depth f_printedCount n (nI j) a_kind a_first a_second a_third a_variables a_operation a_operand a_layout a_blockKind a_blockPatch a_stack a_printedValues := by
  intro k
  induction k with
  | zero =>
    intro j a_stack hj hmj i1 i2 i3 n hn
    obtain ⟨n, rfl⟩ : ∃ n', n = n' + 1 := ⟨n - 1, by omega⟩
    have ej : j = e := by omega
    subst ej
    have ed : f_depth - 1 = nI j := by rw [hd]; exact nI_pred j
    unfold wX_pull_23
    rw [ed]
    refine br_t (nI_le (Nat.le_refl _) (by omega)) ⟨vp_in_nI he (by omega), nm_e ?_⟩
    rw [nI_clamp (by omega)]
    refine K _ (fun p hp => ?_) (fun p h1 h2 => ?_) pk_us
    · rw [pk_un (by omega)]; exact i1 p hp
    · rw [pk_un (by omega)]; exact i2 p h1 h2
  | succ k ih =>
    intro j a_stack hj hmj i1 i2 i3 n hn
    obtain ⟨n, rfl⟩ : ∃ n', n = n' + 1 := ⟨n - 1, by omega⟩
    have ed : f_depth - 1 = nI e := by rw [hd]; exact nI_pred e
    unfold wX_pull_23
    rw [ed, nI_1 j]
    refine br_f (nI_ge (by omega) (by omega)) ⟨vp_in_nI (by omega) (by omega), vp_in_nI (by omega) (by omega), nm_e (nm_e ?_)⟩
    rw [nI_clamp (by omega), nI_clamp (by omega)]
    refine ih (j + 1) _ (by omega) (by omega) (fun p hp => ?_) (fun p h1 h2 => ?_) (fun p hp => ?_) n (by omega)
    · rw [pk_un (by omega)]; exact i1 p hp
    · by_cases c : p = j
      · subst c; rw [pk_us]; exact i3 (p + 1) (by omega)
      · rw [pk_un c]; exact i2 p h1 (by omega)
    · rw [pk_un (by omega)]; exact i3 p (by omega)
theorem xp_pull {post : SX → Prop} {S : List Int32} (h : re_S S f_depth a_stack) {t : Nat} {x : Int32} (hx : S[t]? = some x)
    (K : ∀ st', re_S (x :: S.eraseIdx t) f_depth st' → post (f_length, f_compiled, f_isSound, f_codeEnd, f_layoutDepth, f_openLoops, f_openBlocks, f_depth, f_printedCount, a_kind, a_first, a_second, a_third, a_variables, a_operation, a_operand, a_layout, a_blockKind, a_blockPatch, st', a_printedValues)) : wpX_pull post (f_length, f_compiled, f_isSound, f_codeEnd, f_layoutDepth, f_openLoops, f_openBlocks, f_depth, f_printedCount, a_kind, a_first, a_second, a_third, a_variables, a_operation, a_operand, a_layout, a_blockKind, a_blockPatch, a_stack, a_printedValues) (nI t) := by
  obtain ⟨g1, g2, g3⟩ := re_get h hx
  have hlt := re_lt hx
  unfold wpX_pull
  dsimp only
  rw [g1]
  refine ⟨vp_in_nI g3 (by omega), nm_r (e' := x) (by rw [nI_clamp (by omega)]; exact g2) (nm_e ⟨S.length - 1 - (S.length - 1 - t) + 1, ?_⟩)⟩
  refine xp_23 (e := S.length - 1) (m := S.length - 1 - t) ?_ ?_ a_stack (by omega) ?_ (S.length - 1 - (S.length - 1 - t)) (S.length - 1 - t) a_stack (by omega) (Nat.le_refl _) (fun p _ => rfl) (fun p _ _ => by omega) (fun p _ => rfl) _ (by omega)
  · rw [h.2.1]; congr 1; omega
  · have := h.1; omega
  · intro st' e1 e2 e3
    exact K st' (re_pull h hx e1 e2 e3)
-- one instruction
theorem xp_79 {post : Int32 → SX → Prop} {pc : Nat} {k x : Int32} (hp : pc < 560) (hk : a_operation pc = k) (hx : a_operand pc = x) (h : k < 2 ∨ 6 < k) (H : wX_perform_79 post k x (nI (pc + 1)) f_length f_compiled f_isSound f_codeEnd f_layoutDepth f_openLoops f_openBlocks f_depth f_printedCount a_kind a_first a_second a_third a_variables a_operation a_operand a_layout a_blockKind a_blockPatch a_stack a_printedValues) : wpX_perform post (f_length, f_compiled, f_isSound, f_codeEnd, f_layoutDepth, f_openLoops, f_openBlocks, f_depth, f_printedCount, a_kind, a_first, a_second, a_third, a_variables, a_operation, a_operand, a_layout, a_blockKind, a_blockPatch, a_stack, a_printedValues) (nI pc) := by
  have hi : vp_in (nI pc) 560 := vp_in_nI hp (by omega)
  have hc : (nI pc).toNatClampNeg = pc := nI_clamp (by omega)
  unfold wpX_perform
  dsimp only
  refine ⟨hi, nm_r (e' := k) (by rw [hc, hk]) ⟨hi, nm_r (e' := x) (by rw [hc, hx]) (nm_r (nI_1 pc) ?_)⟩⟩
  by_cases h2 : k < 2
  · exact br_t h2 H
  · exact br_f h2 (br_t (h.resolve_left h2) H)
variable {S : List Int32} {cl : List (Int32 × Int32)} {post : Int32 → SX → Prop} {pc : Nat} {x : Int32}
theorem xp_push (hS : re_S S f_depth a_stack) (hC : re_C cl f_codeEnd a_operation a_operand) (hc : cl[pc]? = some (0, x)) (hl : S.length < 16)
    (K : ∀ d' st', re_S (x :: S) d' st' → post (nI (pc + 1)) (f_length, f_compiled, f_isSound, f_codeEnd, f_layoutDepth, f_openLoops, f_openBlocks, d', f_printedCount, a_kind, a_first, a_second, a_third, a_variables, a_operation, a_operand, a_layout, a_blockKind, a_blockPatch, st', a_printedValues)) : wpX_perform post (f_length, f_compiled, f_isSound, f_codeEnd, f_layoutDepth, f_openLoops, f_openBlocks, f_depth, f_printedCount, a_kind, a_first, a_second, a_third, a_variables, a_operation, a_operand, a_layout, a_blockKind, a_blockPatch, a_stack, a_printedValues) (nI pc) := by
  obtain ⟨_, c2, c3, c4⟩ := re_Cx hC hc
  refine xp_79 c2 c3 c4 (Or.inl (by decide)) ?_
  unfold wX_perform_79
  refine br_t rfl ?_
  rw [hS.2.1]
  refine ⟨vp_in_nI hl (by omega), nm_e (nm_r (nI_1 _) ?_)⟩
  rw [nI_clamp (by omega)]
  exact K _ _ (re_push hS hl x)
theorem xp_dup {t : Nat} (hS : re_S S f_depth a_stack) (hC : re_C cl f_codeEnd a_operation a_operand) (hc : cl[pc]? = some (1, nI t)) (hl : S.length < 16) (hx : S[t]? = some x)
    (K : ∀ d' st', re_S (x :: S) d' st' → post (nI (pc + 1)) (f_length, f_compiled, f_isSound, f_codeEnd, f_layoutDepth, f_openLoops, f_openBlocks, d', f_printedCount, a_kind, a_first, a_second, a_third, a_variables, a_operation, a_operand, a_layout, a_blockKind, a_blockPatch, st', a_printedValues)) : wpX_perform post (f_length, f_compiled, f_isSound, f_codeEnd, f_layoutDepth, f_openLoops, f_openBlocks, f_depth, f_printedCount, a_kind, a_first, a_second, a_third, a_variables, a_operation, a_operand, a_layout, a_blockKind, a_blockPatch, a_stack, a_printedValues) (nI pc) := by
  obtain ⟨_, c2, c3, c4⟩ := re_Cx hC hc
  obtain ⟨g1, g2, g3⟩ := re_get hS hx
  refine xp_79 c2 c3 c4 (Or.inl (by decide)) ?_
  unfold wX_perform_79
  refine br_f (by decide) (br_t rfl ?_)
  rw [g1, nI_clamp (by omega), g2, hS.2.1]
  refine ⟨vp_in_nI g3 (by omega), vp_in_nI hl (by omega), nm_e (nm_r (nI_1 _) ?_)⟩
  rw [nI_clamp (by omega)]
  exact K _ _ (re_push hS hl x)
theorem xp_pul {t : Nat} (hS : re_S S f_depth a_stack) (hC : re_C cl f_codeEnd a_operation a_operand) (hc : cl[pc]? = some (7, nI t)) (hx : S[t]? = some x)
    (K : ∀ d' st', re_S (x :: S.eraseIdx t) d' st' → post (nI (pc + 1)) (f_length, f_compiled, f_isSound, f_codeEnd, f_layoutDepth, f_openLoops, f_openBlocks, d', f_printedCount, a_kind, a_first, a_second, a_third, a_variables, a_operation, a_operand, a_layout, a_blockKind, a_blockPatch, st', a_printedValues)) : wpX_perform post (f_length, f_compiled, f_isSound, f_codeEnd, f_layoutDepth, f_openLoops, f_openBlocks, f_depth, f_printedCount, a_kind, a_first, a_second, a_third, a_variables, a_operation, a_operand, a_layout, a_blockKind, a_blockPatch, a_stack, a_printedValues) (nI pc) := by
  obtain ⟨_, c2, c3, c4⟩ := re_Cx hC hc
  refine xp_79 c2 c3 c4 (Or.inr (by decide)) ?_
  unfold wX_perform_79
  refine br_f (by decide) (br_f (by decide) (br_t rfl ?_))
  refine xp_pull hS hx ?_
  intro st' h
  exact K _ _ h
theorem xp_jmp {q : Int32} (hC : re_C cl f_codeEnd a_operation a_operand) (hc : cl[pc]? = some (11, q))
    (K : post q (f_length, f_compiled, f_isSound, f_codeEnd, f_layoutDepth, f_openLoops, f_openBlocks, f_depth, f_printedCount, a_kind, a_first, a_second, a_third, a_variables, a_operation, a_operand, a_layout, a_blockKind, a_blockPatch, a_stack, a_printedValues)) : wpX_perform post (f_length, f_compiled, f_isSound, f_codeEnd, f_layoutDepth, f_openLoops, f_openBlocks, f_depth, f_printedCount, a_kind, a_first, a_second, a_third, a_variables, a_operation, a_operand, a_layout, a_blockKind, a_blockPatch, a_stack, a_printedValues) (nI pc) := by
  obtain ⟨_, c2, c3, c4⟩ := re_Cx hC hc
  refine xp_79 c2 c3 c4 (Or.inr (by decide)) ?_
  unfold wX_perform_79
  exact br_f (by decide) (br_f (by decide) (br_f (by decide) (br_t rfl K)))
theorem xp_drop {y : Int32} (hS : re_S (x :: S) f_depth a_stack) (hC : re_C cl f_codeEnd a_operation a_operand) (hc : cl[pc]? = some (8, y))
    (K : ∀ d', re_S S d' a_stack → post (nI (pc + 1)) (f_length, f_compiled, f_isSound, f_codeEnd, f_layoutDepth, f_openLoops, f_openBlocks, d', f_printedCount, a_kind, a_first, a_second, a_third, a_variables, a_operation, a_operand, a_layout, a_blockKind, a_blockPatch, a_stack, a_printedValues)) : wpX_perform post (f_length, f_compiled, f_isSound, f_codeEnd, f_layoutDepth, f_openLoops, f_openBlocks, f_depth, f_printedCount, a_kind, a_first, a_second, a_third, a_variables, a_operation, a_operand, a_layout, a_blockKind, a_blockPatch, a_stack, a_printedValues) (nI pc) := by
  obtain ⟨_, c2, c3, c4⟩ := re_Cx hC hc
  obtain ⟨t1, t2, t3, t4⟩ := re_tail hS
  refine xp_79 c2 c3 c4 (Or.inr (by decide)) ?_
  unfold wX_perform_79
  refine br_f (by decide) (br_f (by decide) (br_f (by decide) (br_f (by decide) (nm_r t2 (br_f (by decide) ?_)))))
  unfold wX_perform_201
  exact br_f (by decide) (K _ t1)
theorem xp_jup {q : Int32} (hS : re_S (x :: S) f_depth a_stack) (hC : re_C cl f_codeEnd a_operation a_operand) (hc : cl[pc]? = some (10, q))
    (K : ∀ d', re_S S d' a_stack → (0 < x → post (nI (pc + 1)) (f_length, f_compiled, f_isSound, f_codeEnd, f_layoutDepth, f_openLoops, f_openBlocks, d', f_printedCount, a_kind, a_first, a_second, a_third, a_variables, a_operation, a_operand, a_layout, a_blockKind, a_blockPatch, a_stack, a_printedValues)) ∧ (¬ 0 < x → post q (f_length, f_compiled, f_isSound, f_codeEnd, f_layoutDepth, f_openLoops, f_openBlocks, d', f_printedCount, a_kind, a_first, a_second, a_third, a_variables, a_operation, a_operand, a_layout, a_blockKind, a_blockPatch, a_stack, a_printedValues))) : wpX_perform post (f_length, f_compiled, f_isSound, f_codeEnd, f_layoutDepth, f_openLoops, f_openBlocks, f_depth, f_printedCount, a_kind, a_first, a_second, a_third, a_variables, a_operation, a_operand, a_layout, a_blockKind, a_blockPatch, a_stack, a_printedValues) (nI pc) := by
  obtain ⟨_, c2, c3, c4⟩ := re_Cx hC hc
  obtain ⟨t1, t2, t3, t4⟩ := re_tail hS
  refine xp_79 c2 c3 c4 (Or.inr (by decide)) ?_
  unfold wX_perform_79
  refine br_f (by decide) (br_f (by decide) (br_f (by decide) (br_f (by decide) (nm_r t2 (br_f (by decide) ?_)))))
  unfold wX_perform_201
  refine br_t rfl ⟨vp_in_nI t4 (by omega), ?_⟩
  rw [nI_clamp (by omega), t3]
  exact K _ t1
theorem xp_out {c : Nat} {y : Int32} (hS : re_S (x :: S) f_depth a_stack) (hC : re_C cl f_codeEnd a_operation a_operand) (hc : cl[pc]? = some (9, y)) (hcc : c < 90000)
    (K : ∀ d', re_S S d' a_stack → post (nI (pc + 1)) (f_length, f_compiled, f_isSound, f_codeEnd, f_layoutDepth, f_openLoops, f_openBlocks, d', nI (c + 1), a_kind, a_first, a_second, a_third, a_variables, a_operation, a_operand, a_layout, a_blockKind, a_blockPatch, a_stack, vm_pr a_printedValues c x)) : wpX_perform post (f_length, f_compiled, f_isSound, f_codeEnd, f_layoutDepth, f_openLoops, f_openBlocks, f_depth, nI c, a_kind, a_first, a_second, a_third, a_variables, a_operation, a_operand, a_layout, a_blockKind, a_blockPatch, a_stack, a_printedValues) (nI pc) := by
  obtain ⟨_, c2, c3, c4⟩ := re_Cx hC hc
  obtain ⟨t1, t2, t3, t4⟩ := re_tail hS
  refine xp_79 c2 c3 c4 (Or.inr (by decide)) ?_
  unfold wX_perform_79
  refine br_f (by decide) (br_f (by decide) (br_f (by decide) (br_f (by decide) (nm_r t2 (br_t rfl ⟨vp_in_nI t4 (by omega), ?_⟩)))))
  rw [nI_clamp (by omega), t3]
  have K' := K _ t1
  unfold vm_pr at K'
  unfold wpX_print
  dsimp only
  by_cases h64 : c < 64
  · rw [if_pos h64] at K'
    refine br_f (nI_ge (b := 64) h64 (by decide)) ⟨vp_in_nI h64 (by omega), nm_e (nm_r (nI_1 _) ?_)⟩
    rw [nI_clamp (by omega)]
    unfold wX_perform_201
    exact br_f (by decide) K'
  · rw [if_neg h64] at K'
    refine br_t (nI_le (a := 64) (by omega) (by omega)) (nm_r (nI_1 _) ?_)
    unfold wX_perform_201
    exact br_f (by decide) K'
theorem xp_cmp {post : Int32 → Prop} {k : Nat} {p q : Int32} (h2 : 2 ≤ k) (h6 : k ≤ 6) (K : post (vm_cp k p q)) : wpX_compute post (f_length, f_compiled, f_isSound, f_codeEnd, f_layoutDepth, f_openLoops, f_openBlocks, f_depth, f_printedCount, a_kind, a_first, a_second, a_third, a_variables, a_operation, a_operand, a_layout, a_blockKind, a_blockPatch, a_stack, a_printedValues) (nI k) p q := by
  unfold wpX_compute
  dsimp only
  unfold vm_cp at K
  have hk : k = 2 ∨ k = 3 ∨ k = 4 ∨ k = 5 ∨ k = 6 := by omega
  rcases hk with rfl | rfl | rfl | rfl | rfl
  · exact br_t rfl K
  · exact br_f (by decide) (br_t rfl K)
  · exact br_f (by decide) (br_f (by decide) (br_t rfl K))
  · exact br_f (by decide) (br_f (by decide) (br_f (by decide) (br_t rfl K)))
  · refine br_f (by decide) (br_f (by decide) (br_f (by decide) (br_f (by decide) ?_)))
    simp only [show ¬ (6 = 2) by decide, show ¬ (6 = 3) by decide, show ¬ (6 = 4) by decide, show ¬ (6 = 5) by decide, if_false] at K
    by_cases h : p < q
    · rw [if_pos h] at K
      exact br_f (Int32.not_le.mpr h) K
    · rw [if_neg h] at K
      exact br_t (Int32.not_lt.mp h) K
theorem xp_op {k : Nat} {y p q : Int32} (h2 : 2 ≤ k) (h6 : k ≤ 6) (hS : re_S (q :: p :: S) f_depth a_stack) (hC : re_C cl f_codeEnd a_operation a_operand) (hc : cl[pc]? = some (nI k, y))
    (K : ∀ d' st', re_S (vm_cp k p q :: S) d' st' → post (nI (pc + 1)) (f_length, f_compiled, f_isSound, f_codeEnd, f_layoutDepth, f_openLoops, f_openBlocks, d', f_printedCount, a_kind, a_first, a_second, a_third, a_variables, a_operation, a_operand, a_layout, a_blockKind, a_blockPatch, st', a_printedValues)) : wpX_perform post (f_length, f_compiled, f_isSound, f_codeEnd, f_layoutDepth, f_openLoops, f_openBlocks, f_depth, f_printedCount, a_kind, a_first, a_second, a_third, a_variables, a_operation, a_operand, a_layout, a_blockKind, a_blockPatch, a_stack, a_printedValues) (nI pc) := by
  obtain ⟨_, c2, c3, c4⟩ := re_Cx hC hc
  obtain ⟨t1, t2, t3, t4⟩ := re_tail hS
  obtain ⟨s1, s2, s3, s4⟩ := re_tail t1
  have hi : vp_in (nI pc) 560 := vp_in_nI c2 (by omega)
  have hcc : (nI pc).toNatClampNeg = pc := nI_clamp (by omega)
  unfold wpX_perform
  dsimp only
  refine ⟨hi, nm_r (e' := nI k) (by rw [hcc, c3]) ⟨hi, nm_r (e' := y) (by rw [hcc, c4]) (nm_r (nI_1 pc) ?_)⟩⟩
  refine br_f (nI_nlt (b := 2) h2 (by omega)) (br_f (nI_nlt (a := 6) h6 (by decide)) (nm_r t2 ?_))
  rw [s2]
  refine ⟨vp_in_nI s4 (by omega), vp_in_nI t4 (by omega), ?_⟩
  rw [nI_clamp (by omega), nI_clamp (by omega), s3, t3]
  refine xp_cmp h2 h6 ⟨vp_in_nI s4 (by omega), nm_e ?_⟩
  exact K _ _ (re_set t1 _)
end
end
section
section
variable {f_length f_compiled f_isSound f_codeEnd f_layoutDepth f_openLoops f_openBlocks f_depth f_printedCount : Int32} {a_kind a_first a_second a_third a_variables a_operation a_operand a_layout a_blockKind a_blockPatch a_stack a_printedValues : Nat → Int32}
variable {cl : List (Int32 × Int32)} {post : Int32 → SX → Prop}
-- the machine's loop as a predicate of (steps, place, stack, printed, output)
def xr_W (post : Int32 → SX → Prop) (f_length f_compiled f_isSound f_codeEnd f_layoutDepth f_openLoops f_openBlocks : Int32) (a_kind a_first a_second a_third a_variables a_operation a_operand a_layout a_blockKind a_blockPatch : Nat → Int32) (t pc : Nat) (S : List Int32) (c : Nat) (o : Nat → Int32) : Prop :=
  ∀ f_depth a_stack, re_S S f_depth a_stack → ∀ n, 90000 - t < n → wX_run_55 post n (nI pc) (nI t) f_length f_compiled f_isSound f_codeEnd f_layoutDepth f_openLoops f_openBlocks f_depth (nI c) a_kind a_first a_second a_third a_variables a_operation a_operand a_layout a_blockKind a_blockPatch a_stack o
theorem xr_go {t pc c : Nat} {S : List Int32} {o : Nat → Int32} (hC : re_C cl f_codeEnd a_operation a_operand) (ht : t < 90000) (hp : pc < cl.length)
    (H : ∀ f_depth a_stack, re_S S f_depth a_stack → ∀ n, 90000 - (t + 1) < n → wpX_perform (fun r u => match u with | (f_length, f_compiled, f_isSound, f_codeEnd, f_layoutDepth, f_openLoops, f_openBlocks, f_depth, f_printedCount, a_kind, a_first, a_second, a_third, a_variables, a_operation, a_operand, a_layout, a_blockKind, a_blockPatch, a_stack, a_printedValues) => ∀ y : Int32, y = nI t + 1 → wX_run_55 post n r y f_length f_compiled f_isSound f_codeEnd f_layoutDepth f_openLoops f_openBlocks f_depth f_printedCount a_kind a_first a_second a_third a_variables a_operation a_operand a_layout a_blockKind a_blockPatch a_stack a_printedValues) (f_length, f_compiled, f_isSound, f_codeEnd, f_layoutDepth, f_openLoops, f_openBlocks, f_depth, nI c, a_kind, a_first, a_second, a_third, a_variables, a_operation, a_operand, a_layout, a_blockKind, a_blockPatch, a_stack, o) (nI pc)) :
    xr_W post f_length f_compiled f_isSound f_codeEnd f_layoutDepth f_openLoops f_openBlocks a_kind a_first a_second a_third a_variables a_operation a_operand a_layout a_blockKind a_blockPatch t pc S c o := by
  intro f_depth a_stack hS n hn
  obtain ⟨n, rfl⟩ : ∃ n', n = n' + 1 := ⟨n - 1, by omega⟩
  have h1 := hC.1
  have h2 : ¬ f_codeEnd ≤ nI pc := by rw [hC.2.1]; exact nI_ge hp (by omega)
  exact br_f (nI_ge (b := 90000) ht (by decide)) (br_f h2 (H f_depth a_stack hS n (by omega)))
theorem xr_R (hC : re_C cl f_codeEnd a_operation a_operand) : vm_R cl (xr_W post f_length f_compiled f_isSound f_codeEnd f_layoutDepth f_openLoops f_openBlocks a_kind a_first a_second a_third a_variables a_operation a_operand a_layout a_blockKind a_blockPatch) := by
  refine ⟨?_, ?_, ?_, ?_, ?_, ?_, ?_, ?_⟩
  · intro t pc S c o x ht hl hc H
    refine xr_go hC ht (re_lt hc) (fun f_depth a_stack hS n hn => xp_push hS hC hc hl ?_)
    intro d' st' h y ey
    rw [ey, nI_1]; exact H d' st' h n hn
  · intro t pc S c o d x ht hl hc hx H
    refine xr_go hC ht (re_lt hc) (fun f_depth a_stack hS n hn => xp_dup hS hC hc hl hx ?_)
    intro d' st' h y ey
    rw [ey, nI_1]; exact H d' st' h n hn
  · intro t pc S c o d x ht hc hx H
    refine xr_go hC ht (re_lt hc) (fun f_depth a_stack hS n hn => xp_pul hS hC hc hx ?_)
    intro d' st' h y ey
    rw [ey, nI_1]; exact H d' st' h n hn
  · intro t pc S c o k p q ht h2 h6 hc H
    refine xr_go hC ht (re_lt hc) (fun f_depth a_stack hS n hn => xp_op h2 h6 hS hC hc ?_)
    intro d' st' h y ey
    rw [ey, nI_1]; exact H d' st' h n hn
  · intro t pc S c o x ht hc H
    refine xr_go hC ht (re_lt hc) (fun f_depth a_stack hS n hn => xp_drop hS hC hc ?_)
    intro d' h y ey
    rw [ey, nI_1]; exact H d' _ h n hn
  · intro t pc S c o x ht hcc hc H
    refine xr_go hC ht (re_lt hc) (fun f_depth a_stack hS n hn => xp_out hS hC hc hcc ?_)
    intro d' h y ey
    rw [ey, nI_1]; exact H d' _ h n hn
  · intro t pc S c o x q ht hc H1 H2
    refine xr_go hC ht (re_lt hc) (fun f_depth a_stack hS n hn => xp_jup hS hC hc ?_)
    intro d' h
    refine ⟨fun hx y ey => ?_, fun hx y ey => ?_⟩
    · rw [ey, nI_1]; exact H1 hx d' _ h n hn
    · rw [ey, nI_1]; exact H2 hx d' _ h n hn
  · intro t pc S c o q ht hc H
    refine xr_go hC ht (re_lt hc) (fun f_depth a_stack hS n hn => xp_jmp hC hc ?_)
    intro y ey
    rw [ey, nI_1]; exact H _ _ hS n hn
-- the variables go back
theorem xr_83 (K : ∀ va', (∀ v, v < 6 → va' v = a_stack v) → post f_printedCount (f_length, f_compiled, f_isSound, f_codeEnd, f_layoutDepth, f_openLoops, f_openBlocks, f_depth, f_printedCount, a_kind, a_first, a_second, a_third, va', a_operation, a_operand, a_layout, a_blockKind, a_blockPatch, a_stack, a_printedValues)) : ∀ k j a_variables, j + k = 6 → (∀ v, v < j → a_variables v = a_stack v) → ∀ n, k < n → wX_run_83 post f_length f_compiled f_isSound f_codeEnd f_layoutDepth f_openLoops f_openBlocks f_depth f_printedCount n (nI j) a_kind a_first a_second a_third a_variables a_operation a_operand a_layout a_blockKind a_blockPatch a_stack a_printedValues := by
  intro k
  induction k with
  | zero =>
    intro j a_variables hj h n hn
    obtain ⟨n, rfl⟩ : ∃ n', n = n' + 1 := ⟨n - 1, by omega⟩
    have e : j = 6 := by omega
    subst e
    exact br_t (by decide) (K _ h)
  | succ k ih =>
    intro j a_variables hj h n hn
    obtain ⟨n, rfl⟩ : ∃ n', n = n' + 1 := ⟨n - 1, by omega⟩
    unfold wX_run_83
    refine br_f (nI_ge (b := 6) (by omega) (by decide)) ⟨vp_in_nI (by omega) (by omega), vp_in_nI (by omega) (by omega), nm_e (nm_r (nI_1 _) ?_)⟩
    rw [nI_clamp (by omega)]
    refine ih (j + 1) _ (by omega) (fun v hv => ?_) n (by omega)
    by_cases c : v = j
    · subst c; rw [pk_us]
    · rw [pk_un c]; exact h v (by omega)
theorem xr_end {t pc : Nat} {va' : Nat → Int32} {c : Nat} {o : Nat → Int32} (hC : re_C cl f_codeEnd a_operation a_operand) (ht : t < 90000) (hp : pc = cl.length)
    (K : ∀ f_depth a_stack a_variables, (∀ v, v < 6 → a_variables v = va' v) → post (nI c) (f_length, f_compiled, f_isSound, f_codeEnd, f_layoutDepth, f_openLoops, f_openBlocks, f_depth, nI c, a_kind, a_first, a_second, a_third, a_variables, a_operation, a_operand, a_layout, a_blockKind, a_blockPatch, a_stack, o)) :
    xr_W post f_length f_compiled f_isSound f_codeEnd f_layoutDepth f_openLoops f_openBlocks a_kind a_first a_second a_third a_variables a_operation a_operand a_layout a_blockKind a_blockPatch t pc ((cg_dd 6 0).map va') c o := by
  intro f_depth a_stack hS n hn
  obtain ⟨n, rfl⟩ : ∃ n', n = n' + 1 := ⟨n - 1, by omega⟩
  have h1 := hC.1
  have h2 : f_codeEnd ≤ nI pc := by rw [hC.2.1, hp]; exact nI_le (Nat.le_refl _) (by omega)
  refine br_f (nI_ge (b := 90000) ht (by decide)) (br_t h2 ⟨7, ?_⟩)
  refine xr_83 (fun va2 h => K f_depth a_stack va2 (fun v hv => ?_)) 6 0 a_variables rfl (fun v hv => by omega) 7 (by omega)
  rw [h v hv]
  have g := hS.2.2 (5 - v) (va' v) ?_
  · rw [show ((cg_dd 6 0).map va').length - 1 - (5 - v) = v by rw [List.length_map, cg_dd_len]; omega] at g
    exact g
  · have : v = 0 ∨ v = 1 ∨ v = 2 ∨ v = 3 ∨ v = 4 ∨ v = 5 := by omega
    rcases this with rfl | rfl | rfl | rfl | rfl | rfl <;> rfl
-- the variables go to the stack
theorem xr_16 (K : ∀ st', (∀ v, v < 6 → st' v = a_variables v) → ∃ n, wX_run_55 post n 0 0 f_length f_compiled f_isSound f_codeEnd f_layoutDepth f_openLoops f_openBlocks 6 0 a_kind a_first a_second a_third a_variables a_operation a_operand a_layout a_blockKind a_blockPatch st' a_printedValues) : ∀ k j a_stack, j + k = 6 → (∀ v, v < j → a_stack v = a_variables v) → ∀ n, k < n → wX_run_16 post f_length f_compiled f_isSound f_codeEnd f_layoutDepth f_openLoops f_openBlocks f_depth f_printedCount n (nI j) a_kind a_first a_second a_third a_variables a_operation a_operand a_layout a_blockKind a_blockPatch a_stack a_printedValues := by
  intro k
  induction k with
  | zero =>
    intro j a_stack hj h n hn
    obtain ⟨n, rfl⟩ : ∃ n', n = n' + 1 := ⟨n - 1, by omega⟩
    have e : j = 6 := by omega
    subst e
    exact br_t (by decide) (K _ h)
  | succ k ih =>
    intro j a_stack hj h n hn
    obtain ⟨n, rfl⟩ : ∃ n', n = n' + 1 := ⟨n - 1, by omega⟩
    unfold wX_run_16
    refine br_f (nI_ge (b := 6) (by omega) (by decide)) ⟨vp_in_nI (by omega) (by omega), vp_in_nI (by omega) (by omega), nm_e (nm_r (nI_1 _) ?_)⟩
    rw [nI_clamp (by omega)]
    refine ih (j + 1) _ (by omega) (fun v hv => ?_) n (by omega)
    by_cases c : v = j
    · subst c; rw [pk_us]
    · rw [pk_un c]; exact h v (by omega)
theorem xr_S0 {st va : Nat → Int32} (h : ∀ v, v < 6 → st v = va v) : re_S ((cg_dd 6 0).map va) 6 st := by
  refine ⟨by rw [List.length_map, cg_dd_len]; omega, by rw [List.length_map, cg_dd_len]; rfl, ?_⟩
  intro t x hx
  have hlt := re_lt hx
  rw [List.length_map, cg_dd_len] at hlt ⊢
  have : t = 0 ∨ t = 1 ∨ t = 2 ∨ t = 3 ∨ t = 4 ∨ t = 5 := by omega
  rcases this with rfl | rfl | rfl | rfl | rfl | rfl <;> (injection hx with hx; rw [← hx]; exact h _ (by omega))
-- X's run behind its compilation
theorem xr_run {va : Nat → Int32} {t' c' : Nat} {va' o' : Nat → Int32} (hC : re_C cl f_codeEnd a_operation a_operand) (hv : ∀ v, v < 6 → a_variables v = va v)
    (G : vm_go cl 0 0 ((cg_dd 6 0).map va) 0 a_printedValues t' cl.length ((cg_dd 6 0).map va') c' o') (ht : t' < 90000)
    (K : ∀ f_depth a_stack a_variables, (∀ v, v < 6 → a_variables v = va' v) → post (nI c') (f_length, f_compiled, f_isSound, f_codeEnd, f_layoutDepth, f_openLoops, f_openBlocks, f_depth, nI c', a_kind, a_first, a_second, a_third, a_variables, a_operation, a_operand, a_layout, a_blockKind, a_blockPatch, a_stack, o')) :
    ∃ n, wX_run_16 post f_length f_compiled f_isSound f_codeEnd f_layoutDepth f_openLoops f_openBlocks f_depth f_printedCount n 0 a_kind a_first a_second a_third a_variables a_operation a_operand a_layout a_blockKind a_blockPatch a_stack a_printedValues := by
  refine ⟨7, ?_⟩
  refine xr_16 (fun st' h => ?_) 6 0 a_stack rfl (fun v hv => by omega) 7 (by omega)
  refine ⟨90001, ?_⟩
  have E := xr_end (post := post) (f_length := f_length) (f_compiled := f_compiled) (f_isSound := f_isSound) (f_layoutDepth := f_layoutDepth) (f_openLoops := f_openLoops) (f_openBlocks := f_openBlocks) (a_kind := a_kind) (a_first := a_first) (a_second := a_second) (a_third := a_third) (a_layout := a_layout) (a_blockKind := a_blockKind) (a_blockPatch := a_blockPatch) (a_variables := a_variables) hC ht rfl K
  exact G _ (xr_R hC) E 6 st' (xr_S0 (fun v hv' => by rw [h v hv', hv v hv'])) 90001 (by omega)
end
end
section
theorem xc_b8 : ∀ v, v < 128 → (nI v).toInt8.toInt32 = nI v := by decide +kernel
theorem xc_b16 : ∀ v, v < 600 → (nI v).toInt16.toInt32 = nI v := by decide +kernel
theorem xc_nb {v : Nat} (h : v < 128) : vp_nar .byte (nI v).toInt8.toInt32 = nI v := by
  rw [vp_nar_byte, xc_b8 v h, xc_b8 v h]
theorem xc_nb1 {v : Nat} (h : v < 128) : vp_nar .byte (nI v) = nI v := by
  rw [vp_nar_byte, xc_b8 v h]
theorem xc_ns {v : Nat} (h : v < 600) : vp_nar .short (nI v).toInt16.toInt32 = nI v := by
  rw [vp_nar_short, xc_b16 v h, xc_b16 v h]
theorem xc_idx {v : Nat} : ∀ (L : List Nat) (d : Nat), L[d]? = some v → (∀ t, t < d → L[t]? ≠ some v) → L.idxOf v = d := by
  intro L
  induction L with
  | nil => intro d h; simp at h
  | cons x L ih =>
    intro d h1 h2
    cases d with
    | zero =>
      simp only [List.getElem?_cons_zero] at h1
      injection h1 with h1
      subst h1; simp
    | succ d =>
      have hx : ¬ x = v := fun e => h2 0 (by omega) (by rw [e]; rfl)
      have I := ih d h1 (fun t ht => h2 (t + 1) (by omega))
      rw [List.idxOf_cons, show (x == v) = false by simp [hx]]
      simp [I]
section
variable {f_length f_compiled f_isSound f_codeEnd f_layoutDepth f_openLoops f_openBlocks f_depth f_printedCount : Int32} {a_kind a_first a_second a_third a_variables a_operation a_operand a_layout a_blockKind a_blockPatch a_stack a_printedValues : Nat → Int32}
theorem xc_write {post : SX → Prop} {cl : List (Int32 × Int32)} {k : Nat} {y : Int32} (hC : re_C cl f_codeEnd a_operation a_operand) (hl : cl.length < 560) (hk : k < 128)
    (K : ∀ f_codeEnd a_operation a_operand, re_C (cl ++ [(nI k, y)]) f_codeEnd a_operation a_operand → post (f_length, f_compiled, f_isSound, f_codeEnd, f_layoutDepth, f_openLoops, f_openBlocks, f_depth, f_printedCount, a_kind, a_first, a_second, a_third, a_variables, a_operation, a_operand, a_layout, a_blockKind, a_blockPatch, a_stack, a_printedValues)) : wpX_write post (f_length, f_compiled, f_isSound, f_codeEnd, f_layoutDepth, f_openLoops, f_openBlocks, f_depth, f_printedCount, a_kind, a_first, a_second, a_third, a_variables, a_operation, a_operand, a_layout, a_blockKind, a_blockPatch, a_stack, a_printedValues) (nI k) y := by
  unfold wpX_write
  dsimp only
  have hi : vp_in f_codeEnd 560 := by rw [hC.2.1]; exact vp_in_nI hl (by omega)
  refine ⟨hi, nm_e ⟨hi, nm_e (nm_r (e' := nI (cl.length + 1)) (by rw [hC.2.1]; exact nI_1 _) ?_)⟩⟩
  rw [xc_nb hk, hC.2.1, nI_clamp (by omega)]
  exact K _ _ _ (re_write hC hl (nI k) y)
theorem xc_push {post : SX → Prop} {L : List Nat} {v : Nat} (hL : re_S (L.map nI) f_layoutDepth a_layout) (hl : L.length < 16) (hv : v < 128)
    (K : ∀ f_layoutDepth a_layout, re_S ((v :: L).map nI) f_layoutDepth a_layout → post (f_length, f_compiled, f_isSound, f_codeEnd, f_layoutDepth, f_openLoops, f_openBlocks, f_depth, f_printedCount, a_kind, a_first, a_second, a_third, a_variables, a_operation, a_operand, a_layout, a_blockKind, a_blockPatch, a_stack, a_printedValues)) : wpX_pushLayout post (f_length, f_compiled, f_isSound, f_codeEnd, f_layoutDepth, f_openLoops, f_openBlocks, f_depth, f_printedCount, a_kind, a_first, a_second, a_third, a_variables, a_operation, a_operand, a_layout, a_blockKind, a_blockPatch, a_stack, a_printedValues) (nI v) := by
  have len : (L.map nI).length = L.length := List.length_map ..
  have e : f_layoutDepth = nI L.length := by rw [hL.2.1, len]
  unfold wpX_pushLayout
  dsimp only
  refine ⟨by rw [e]; exact vp_in_nI hl (by omega), nm_e (nm_r (e' := nI (L.length + 1)) (by rw [e]; exact nI_1 _) ?_)⟩
  rw [xc_nb hv, e, nI_clamp (by omega)]
  have := re_push hL (by omega) (nI v)
  rw [len] at this
  exact K _ _ this
theorem xc_dist2 {post : Int32 → Prop} {L : List Nat} {v : Nat} (hL : re_S (L.map nI) f_layoutDepth a_layout) (hb : ∀ x, x ∈ L → x < 128) (hv : v < 128)
    (Km : v ∈ L → post (nI (L.idxOf v))) (Kn : v ∉ L → post (-1)) : ∀ k d, d + k = L.length → (∀ t, t < d → L[t]? ≠ some v) → ∀ n, k < n → wX_distance_2 post (nI v) f_length f_compiled f_isSound f_codeEnd f_layoutDepth f_openLoops f_openBlocks f_depth f_printedCount a_kind a_first a_second a_third a_variables a_operation a_operand a_layout a_blockKind a_blockPatch a_stack a_printedValues n (nI d) := by
  have len : (L.map nI).length = L.length := List.length_map ..
  have e : f_layoutDepth = nI L.length := by rw [hL.2.1, len]
  have l16 : L.length ≤ 16 := by have := hL.1; omega
  intro k
  induction k with
  | zero =>
    intro d hd h n hn
    obtain ⟨n, rfl⟩ : ∃ n', n = n' + 1 := ⟨n - 1, by omega⟩
    refine br_t (by rw [e]; exact nI_le (by omega) (by omega)) (Kn ?_)
    intro hm
    obtain ⟨t, ht, h2⟩ := List.getElem_of_mem hm
    exact h t (by omega) (by rw [List.getElem?_eq_getElem ht, h2])
  | succ k ih =>
    intro d hd h n hn
    obtain ⟨n, rfl⟩ : ∃ n', n = n' + 1 := ⟨n - 1, by omega⟩
    have hlt : d < L.length := by omega
    have hx : (L.map nI)[d]? = some (nI L[d]) := by rw [List.getElem?_map, List.getElem?_eq_getElem hlt]; rfl
    obtain ⟨g1, g2, g3⟩ := re_get hL hx
    have hb1 := hb L[d] (List.getElem_mem hlt)
    unfold wX_distance_2
    rw [g1, nI_clamp (by omega), g2]
    refine br_f (by rw [e]; exact nI_ge (by omega) (by omega)) ⟨vp_in_nI g3 (by omega), ?_⟩
    by_cases c : L[d] = v
    · refine br_t (by rw [c]) ?_
      have hs : L[d]? = some v := by rw [List.getElem?_eq_getElem hlt, c]
      have := Km (by rw [← c]; exact List.getElem_mem hlt)
      rw [xc_idx L d hs h] at this
      exact this
    · refine br_f (fun z => c ((nI_eq (by omega) (by omega)).mp z)) (nm_r (nI_1 _) ?_)
      refine ih (d + 1) (by omega) (fun t ht => ?_) n (by omega)
      by_cases c2 : t = d
      · subst c2; rw [List.getElem?_eq_getElem hlt]; intro z; injection z with z; exact c z
      · exact h t (by omega)
theorem xc_dist {post : Int32 → Prop} {L : List Nat} {v : Nat} (hL : re_S (L.map nI) f_layoutDepth a_layout) (hb : ∀ x, x ∈ L → x < 128) (hv : v < 128)
    (Km : v ∈ L → post (nI (L.idxOf v))) (Kn : v ∉ L → post (-1)) : wpX_distance post (f_length, f_compiled, f_isSound, f_codeEnd, f_layoutDepth, f_openLoops, f_openBlocks, f_depth, f_printedCount, a_kind, a_first, a_second, a_third, a_variables, a_operation, a_operand, a_layout, a_blockKind, a_blockPatch, a_stack, a_printedValues) (nI v) :=
  ⟨L.length + 1, xc_dist2 hL hb hv Km Kn L.length 0 (by omega) (fun t ht => by omega) _ (by omega)⟩
theorem xc_26 {post : SX → Prop} {v e m : Nat} (hd : f_layoutDepth = nI (e + 1)) (he : e < 16) (st0 : Nat → Int32) (hm : m ≤ e) (hv : v < 128) (hb : ∀ p, p ≤ e → vp_nar .byte (st0 p) = st0 p)
    (K : ∀ st', (∀ p, p < m → st' p = st0 p) → (∀ p, m ≤ p → p < e → st' p = st0 (p + 1)) → st' e = nI v → post (f_length, f_compiled, f_isSound, f_codeEnd, f_layoutDepth, f_openLoops, f_openBlocks, f_depth, f_printedCount, a_kind, a_first, a_second, a_third, a_variables, a_operation, a_operand, st', a_blockKind, a_blockPatch, a_stack, a_printedValues)) :
    ∀ k j a_layout, j + k = e → m ≤ j → (∀ p, p < m → a_layout p = st0 p) → (∀ p, m ≤ p → p < j → a_layout p = st0 (p + 1)) → (∀ p, j ≤ p → a_layout p = st0 p) → ∀ n, k < n → wX_pullUp_26 post (nI v) f_length f_compiled f_isSound f_codeEnd f_layoutDepth f_openLoops f_openBlocks f_depth f_printedCount n (nI j) a_kind a_first a_second a_third a_variables a_operation a_operand a_layout a_blockKind a_blockPatch a_stack a_printedValues := by
  intro k
  induction k with
  | zero =>
    intro j a_layout hj hmj i1 i2 i3 n hn
    obtain ⟨n, rfl⟩ : ∃ n', n = n' + 1 := ⟨n - 1, by omega⟩
    have ej : j = e := by omega
    subst ej
    have ed : f_layoutDepth - 1 = nI j := by rw [hd]; exact nI_pred j
    unfold wX_pullUp_26
    rw [ed]
    refine br_t (nI_le (Nat.le_refl _) (by omega)) ⟨vp_in_nI he (by omega), nm_e ?_⟩
    rw [nI_clamp (by omega), xc_nb hv]
    refine K _ (fun p hp => ?_) (fun p h1 h2 => ?_) pk_us
    · rw [pk_un (by omega)]; exact i1 p hp
    · rw [pk_un (by omega)]; exact i2 p h1 h2
  | succ k ih =>
    intro j a_layout hj hmj i1 i2 i3 n hn
    obtain ⟨n, rfl⟩ : ∃ n', n = n' + 1 := ⟨n - 1, by omega⟩
    have ed : f_layoutDepth - 1 = nI e := by rw [hd]; exact nI_pred e
    unfold wX_pullUp_26
    rw [ed, nI_1 j]
    refine br_f (nI_ge (by omega) (by omega)) ⟨vp_in_nI (by omega) (by omega), vp_in_nI (by omega) (by omega), nm_e (nm_e ?_)⟩
    rw [nI_clamp (by omega), nI_clamp (by omega), i3 (j + 1) (by omega), hb (j + 1) (by omega)]
    refine ih (j + 1) _ (by omega) (by omega) (fun p hp => ?_) (fun p h1 h2 => ?_) (fun p hp => ?_) n (by omega)
    · rw [pk_un (by omega)]; exact i1 p hp
    · by_cases c : p = j
      · subst c; rw [pk_us]
      · rw [pk_un c]; exact i2 p h1 (by omega)
    · rw [pk_un (by omega)]; exact i3 p (by omega)
theorem xc_26b {post : SX → Prop} {L : List Nat} {v : Nat} (hL : re_S (L.map nI) f_layoutDepth a_layout) (hb : ∀ x, x ∈ L → x < 128) (hm : v ∈ L)
    (K : ∀ a_layout, re_S ((v :: L.erase v).map nI) f_layoutDepth a_layout → post (f_length, f_compiled, f_isSound, f_codeEnd, f_layoutDepth, f_openLoops, f_openBlocks, f_depth, f_printedCount, a_kind, a_first, a_second, a_third, a_variables, a_operation, a_operand, a_layout, a_blockKind, a_blockPatch, a_stack, a_printedValues)) {x3 : Int32} (hx3 : x3 = (f_layoutDepth - 1) - nI (L.idxOf v)) : ∃ n, wX_pullUp_26 post (nI v) f_length f_compiled f_isSound f_codeEnd f_layoutDepth f_openLoops f_openBlocks f_depth f_printedCount n x3 a_kind a_first a_second a_third a_variables a_operation a_operand a_layout a_blockKind a_blockPatch a_stack a_printedValues := by
  have len : (L.map nI).length = L.length := List.length_map ..
  have e : f_layoutDepth = nI L.length := by rw [hL.2.1, len]
  have l16 : L.length ≤ 16 := by have := hL.1; omega
  have hx : (L.map nI)[L.idxOf v]? = some (nI v) := vm_idx hm
  obtain ⟨g1, g2, g3⟩ := re_get hL hx
  have hlt := List.idxOf_lt_length_of_mem hm
  rw [len] at g1 g2 g3
  rw [hx3, g1]
  refine ⟨L.length - 1 - (L.length - 1 - L.idxOf v) + 1, xc_26 (e := L.length - 1) (m := L.length - 1 - L.idxOf v) (by rw [e]; congr 1; omega) (by omega) a_layout (by omega) (hb v hm) ?_ ?_ (L.length - 1 - (L.length - 1 - L.idxOf v)) (L.length - 1 - L.idxOf v) a_layout (by omega) (Nat.le_refl _) (fun p _ => rfl) (fun p _ _ => by omega) (fun p _ => rfl) _ (by omega)⟩
  · intro p hp
    have hlt2 : L.length - 1 - p < L.length := by omega
    have h2 := hL.2.2 (L.length - 1 - p) (nI L[L.length - 1 - p]) (by rw [List.getElem?_map, List.getElem?_eq_getElem hlt2]; rfl)
    rw [len, show L.length - 1 - (L.length - 1 - p) = p by omega] at h2
    rw [h2]
    exact xc_nb1 (hb _ (List.getElem_mem hlt2))
  · intro st' e1 e2 e3
    refine K st' ?_
    have := re_pull (st' := st') hL hx (by rw [len]; exact e1) (by rw [len]; exact e2) (by rw [len]; exact e3)
    rw [vm_mapE, ← List.erase_eq_eraseIdx_of_idxOf rfl] at this
    exact this
theorem xc_pull {post : SX → Prop} {L : List Nat} {v : Nat} {cl : List (Int32 × Int32)} (hL : re_S (L.map nI) f_layoutDepth a_layout) (hb : ∀ x, x ∈ L → x < 128) (hm : v ∈ L) (hC : re_C cl f_codeEnd a_operation a_operand) (hl : cl.length < 560)
    (K : ∀ f_codeEnd a_operation a_operand a_layout, re_C (cl ++ cg_pc L v) f_codeEnd a_operation a_operand → re_S ((v :: L.erase v).map nI) f_layoutDepth a_layout → post (f_length, f_compiled, f_isSound, f_codeEnd, f_layoutDepth, f_openLoops, f_openBlocks, f_depth, f_printedCount, a_kind, a_first, a_second, a_third, a_variables, a_operation, a_operand, a_layout, a_blockKind, a_blockPatch, a_stack, a_printedValues)) : wpX_pullUp post (f_length, f_compiled, f_isSound, f_codeEnd, f_layoutDepth, f_openLoops, f_openBlocks, f_depth, f_printedCount, a_kind, a_first, a_second, a_third, a_variables, a_operation, a_operand, a_layout, a_blockKind, a_blockPatch, a_stack, a_printedValues) (nI v) := by
  have hlt := List.idxOf_lt_length_of_mem hm
  have l16 : L.length ≤ 16 := by have := hL.1; rw [List.length_map] at this; exact this
  unfold wpX_pullUp
  dsimp only
  refine xc_dist hL hb (hb v hm) (fun _ => ?_) (fun z => absurd hm z)
  unfold cg_pc at K
  by_cases c : L.idxOf v = 0
  · rw [if_pos c, List.append_nil] at K
    refine br_t (by rw [c]; decide) (fun x3 ex => ?_)
    exact xc_26b hL hb hm (fun a_layout h => K _ _ _ _ hC h) ex
  · rw [if_neg c] at K
    refine br_f (nI_nle (by omega) (by omega)) ?_
    refine xc_write (k := 7) hC hl (by decide) ?_
    intro f_codeEnd a_operation a_operand hC'
    dsimp only
    intro x3 ex
    exact xc_26b hL hb hm (fun a_layout h => K _ _ _ _ hC' h) ex
theorem xc_33 {post : SX → Prop} {T : Nat} (hT : T ≤ 9) : ∀ m w (L : List Nat) (cl : List (Int32 × Int32)) f_codeEnd a_operation a_operand a_layout, w + m = T → (∀ v, w ≤ v → v < w + m → v ∈ L) → (∀ x, x ∈ L → x < 128) → cl.length + m ≤ 560 → re_C cl f_codeEnd a_operation a_operand → re_S (L.map nI) f_layoutDepth a_layout →
    (∀ f_codeEnd a_operation a_operand a_layout, re_C (cl ++ cg_ac m w L) f_codeEnd a_operation a_operand → re_S ((cg_al m w L).map nI) f_layoutDepth a_layout → post (f_length, f_compiled, f_isSound, f_codeEnd, f_layoutDepth, f_openLoops, f_openBlocks, f_depth, f_printedCount, a_kind, a_first, a_second, a_third, a_variables, a_operation, a_operand, a_layout, a_blockKind, a_blockPatch, a_stack, a_printedValues)) → ∀ n, m < n → wX_arrange_33 post (nI T) n (nI w) f_length f_compiled f_isSound f_codeEnd f_layoutDepth f_openLoops f_openBlocks f_depth f_printedCount a_kind a_first a_second a_third a_variables a_operation a_operand a_layout a_blockKind a_blockPatch a_stack a_printedValues := by
  intro m
  induction m with
  | zero =>
    intro w L cl f_codeEnd a_operation a_operand a_layout hw hm hb hl hC hL K n hn
    obtain ⟨n, rfl⟩ : ∃ n', n = n' + 1 := ⟨n - 1, by omega⟩
    refine br_t (nI_le (by omega) (by omega)) (K _ _ _ _ ?_ hL)
    simpa [cg_ac] using hC
  | succ m ih =>
    intro w L cl f_codeEnd a_operation a_operand a_layout hw hm hb hl hC hL K n hn
    obtain ⟨n, rfl⟩ : ∃ n', n = n' + 1 := ⟨n - 1, by omega⟩
    refine br_f (nI_ge (by omega) (by omega)) ?_
    refine xc_pull hL hb (hm w (by omega) (by omega)) hC (by omega) ?_
    intro f_codeEnd a_operation a_operand a_layout hC' hL'
    dsimp only
    refine nm_r (nI_1 _) ?_
    have pl := cg_pc_len L w
    refine ih (w + 1) (w :: L.erase w) (cl ++ cg_pc L w) _ _ _ _ (by omega) ?_ ?_ (by rw [List.length_append]; omega) hC' hL' ?_ n (by omega)
    · intro v h1 h2
      exact List.mem_cons_of_mem _ ((List.mem_erase_of_ne (by omega)).mpr (hm v (by omega) (by omega)))
    · intro x hx
      rcases List.mem_cons.mp hx with rfl | hx
      · omega
      · exact hb x (List.mem_of_mem_erase hx)
    · intro f_codeEnd a_operation a_operand a_layout h1 h2
      refine K _ _ _ _ ?_ h2
      unfold cg_ac
      rw [← List.append_assoc]; exact h1
theorem xc_10 {post : SX → Prop} {T : Nat} {L : List Nat} (hT : T ≤ 9) (hlen : L.length = T) (hL : re_S (L.map nI) f_layoutDepth a_layout) (hb : ∀ x, x ∈ L → x < 128) : ∀ d f, f + d = T → (∃ n, wX_arrange_33 post (nI T) n (nI (cg_fs L d f)) f_length f_compiled f_isSound f_codeEnd f_layoutDepth f_openLoops f_openBlocks f_depth f_printedCount a_kind a_first a_second a_third a_variables a_operation a_operand a_layout a_blockKind a_blockPatch a_stack a_printedValues) → ∀ n, d < n → wX_arrange_10 post (nI T) f_length f_compiled f_isSound f_codeEnd f_layoutDepth f_openLoops f_openBlocks f_depth f_printedCount a_kind a_first a_second a_third a_variables a_operation a_operand a_layout a_blockKind a_blockPatch a_stack a_printedValues n (nI f) := by
  have len : (L.map nI).length = L.length := List.length_map ..
  intro d
  induction d with
  | zero =>
    intro f hf K n hn
    obtain ⟨n, rfl⟩ : ∃ n', n = n' + 1 := ⟨n - 1, by omega⟩
    exact br_t (nI_le (by omega) (by omega)) K
  | succ d ih =>
    intro f hf K n hn
    obtain ⟨n, rfl⟩ : ∃ n', n = n' + 1 := ⟨n - 1, by omega⟩
    have hlt : L.length - 1 - f < L.length := by omega
    have h2 := hL.2.2 (L.length - 1 - f) (nI L[L.length - 1 - f]) (by rw [List.getElem?_map, List.getElem?_eq_getElem hlt]; rfl)
    rw [len, show L.length - 1 - (L.length - 1 - f) = f by omega] at h2
    have hb1 := hb _ (List.getElem_mem hlt)
    unfold wX_arrange_10
    rw [nI_clamp (by omega), h2]
    refine br_f (nI_ge (by omega) (by omega)) ⟨vp_in_nI (by omega) (by omega), ?_⟩
    unfold cg_fs at K
    by_cases c : L[L.length - 1 - f] = f
    · rw [if_pos (by rw [List.getElem?_eq_getElem hlt, c])] at K
      exact br_t (by rw [c]) (nm_r (nI_1 _) (ih (f + 1) (by omega) K n (by omega)))
    · rw [if_neg (by rw [List.getElem?_eq_getElem hlt]; intro z; injection z with z; exact c z)] at K
      exact br_f (fun z => c ((nI_eq (by omega) (by omega)).mp z)) K
theorem xc_arrange {post : SX → Prop} {l : Nat} {L : List Nat} {cl : List (Int32 × Int32)} (ho : f_openLoops = nI l) (hl3 : l ≤ 3) (hn : L.Nodup) (hm : ∀ v, v ∈ L ↔ v < 6 + l) (hL : re_S (L.map nI) f_layoutDepth a_layout) (hC : re_C cl f_codeEnd a_operation a_operand) (hl : cl.length + 9 ≤ 560)
    (K : ∀ f_codeEnd a_operation a_operand a_layout, re_C (cl ++ cg_ar L (6 + l)) f_codeEnd a_operation a_operand → re_S ((cg_dd (6 + l) 0).map nI) f_layoutDepth a_layout → post (f_length, f_compiled, f_isSound, f_codeEnd, f_layoutDepth, f_openLoops, f_openBlocks, f_depth, f_printedCount, a_kind, a_first, a_second, a_third, a_variables, a_operation, a_operand, a_layout, a_blockKind, a_blockPatch, a_stack, a_printedValues)) : wpX_arrange post (f_length, f_compiled, f_isSound, f_codeEnd, f_layoutDepth, f_openLoops, f_openBlocks, f_depth, f_printedCount, a_kind, a_first, a_second, a_third, a_variables, a_operation, a_operand, a_layout, a_blockKind, a_blockPatch, a_stack, a_printedValues) := by
  have hb : ∀ x, x ∈ L → x < 128 := fun x hx => by have := (hm x).mp hx; omega
  have len := cg_len hn hm
  obtain ⟨a1, a2⟩ := cg_arr hn hm
  unfold wpX_arrange
  dsimp only
  refine nm_r (e' := nI (6 + l)) (by rw [ho]; exact nI_add 6 l) ⟨6 + l + 1, ?_⟩
  refine xc_10 (by omega) len hL hb (6 + l) 0 (by omega) ⟨6 + l + 1, ?_⟩ _ (by omega)
  refine xc_33 (by omega) (6 + l - cg_fs L (6 + l) 0) (cg_fs L (6 + l) 0) L cl _ _ _ _ (by omega) (fun v h1 h2 => (hm v).mpr (by omega)) hb (by omega) hC hL ?_ _ (by omega)
  intro f_codeEnd a_operation a_operand a_layout h1 h2
  rw [a1] at h2
  exact K _ _ _ _ h1 h2
end
end
section
-- the source in X's arrays
def qs_X (Q : qs_T) (n : Nat) (ki fi se th : Nat → Int32) : Prop :=
  ∀ j, j < n → ki j = nI (qs_K Q j) ∧ (qs_K Q j = 0 → se j = nI (qs_A Q j) ∧ fi j = qs_V Q j) ∧ (1 ≤ qs_K Q j → qs_K Q j ≠ 9 → qs_K Q j ≠ 11 → fi j = nI (qs_A Q j)) ∧ (1 ≤ qs_K Q j → qs_K Q j ≤ 6 → se j = nI (qs_B Q j)) ∧ (2 ≤ qs_K Q j → qs_K Q j ≤ 6 → th j = nI (qs_C Q j))
section
variable {f_length f_compiled f_isSound f_codeEnd f_layoutDepth f_openLoops f_openBlocks f_depth f_printedCount : Int32} {a_kind a_first a_second a_third a_variables a_operation a_operand a_layout a_blockKind a_blockPatch a_stack a_printedValues : Nat → Int32}
variable {Q : qs_T} {n j : Nat}
theorem xs_kind {post : Int32 → Prop} (hn : n ≤ 40) (hX : qs_X Q n a_kind a_first a_second a_third) (hj : j < n) : a_kind (nI j).toNatClampNeg = nI (qs_K Q j) := by
  rw [nI_clamp (by omega)]; exact (hX j hj).1
theorem xs_isB {post : Int32 → Prop} (hlen : f_length = nI n) (hn : n ≤ 40) (hq : ∀ i, i < n → qs_ok Q i) (hX : qs_X Q n a_kind a_first a_second a_third) (hj : j ≤ 40)
    (K1 : n ≤ j ∨ 8 ≤ qs_K Q j → post 1) (K0 : j < n → qs_K Q j ≤ 7 → post 0) : wpX_isBoundary post (f_length, f_compiled, f_isSound, f_codeEnd, f_layoutDepth, f_openLoops, f_openBlocks, f_depth, f_printedCount, a_kind, a_first, a_second, a_third, a_variables, a_operation, a_operand, a_layout, a_blockKind, a_blockPatch, a_stack, a_printedValues) (nI j) := by
  unfold wpX_isBoundary
  dsimp only
  rw [hlen]
  by_cases c : n ≤ j
  · exact br_t (nI_le c (by omega)) (K1 (Or.inl c))
  · have hj' : j < n := by omega
    have k11 := (hq j hj').1
    refine br_f (nI_ge hj' (by omega)) ⟨vp_in_nI (by omega) (by omega), ?_⟩
    rw [nI_clamp (by omega), (hX j hj').1]
    by_cases c2 : qs_K Q j < 8
    · exact br_t (nI_lt (b := 8) c2 (by decide)) (K0 hj' (by omega))
    · exact br_f (nI_nlt (b := 8) (by omega) (by omega)) (K1 (Or.inr (by omega)))
theorem xs_writes {post : Int32 → Prop} (hn : n ≤ 40) (hq : qs_ok Q j) (hX : qs_X Q n a_kind a_first a_second a_third) (hj : j < n)
    (K : post (if qs_K Q j ≤ 6 then nI (qs_A Q j) else -1)) : wpX_writes post (f_length, f_compiled, f_isSound, f_codeEnd, f_layoutDepth, f_openLoops, f_openBlocks, f_depth, f_printedCount, a_kind, a_first, a_second, a_third, a_variables, a_operation, a_operand, a_layout, a_blockKind, a_blockPatch, a_stack, a_printedValues) (nI j) := by
  have k11 := hq.1
  have hi : vp_in (nI j) 40 := vp_in_nI (by omega) (by omega)
  obtain ⟨x1, x2, x3, x4, x5⟩ := hX j hj
  unfold wpX_writes
  dsimp only
  rw [nI_clamp (by omega)]
  refine ⟨hi, nm_r x1 ?_⟩
  by_cases c : qs_K Q j = 0
  · rw [if_pos (by omega)] at K
    refine br_t (by rw [c]; rfl) ⟨hi, ?_⟩
    rw [(x2 c).1]; exact K
  · refine br_f (nI_ne0 (by omega) (by omega)) ?_
    by_cases c2 : qs_K Q j ≤ 6
    · rw [if_pos c2] at K
      refine br_f (nI_nlt (a := 6) c2 (by decide)) ⟨hi, ?_⟩
      rw [x3 (by omega) (by omega) (by omega)]; exact K
    · rw [if_neg c2] at K
      exact br_t (nI_lt (a := 6) (by omega) (by omega)) K
theorem xs_eq {post : Int32 → Prop} {x y : Nat} (hx : x < 128) (hy : y < 128) (K : post (if decide (x = y) = true then 1 else 0)) : (nI x = nI y → post 1) ∧ (¬ nI x = nI y → post 0) := by
  by_cases c : x = y
  · rw [if_pos (by simp [c])] at K
    exact br_t (by rw [c]) K
  · rw [if_neg (by simp [c])] at K
    exact br_f (fun z => c ((nI_eq (by omega) (by omega)).mp z)) K
theorem xs_reads {post : Int32 → Prop} {v : Nat} (hn : n ≤ 40) (hq : qs_ok Q j) (hX : qs_X Q n a_kind a_first a_second a_third) (hj : j < n) (hv : v < 128)
    (K : post (if qs_rd Q j v = true then 1 else 0)) : wpX_reads post (f_length, f_compiled, f_isSound, f_codeEnd, f_layoutDepth, f_openLoops, f_openBlocks, f_depth, f_printedCount, a_kind, a_first, a_second, a_third, a_variables, a_operation, a_operand, a_layout, a_blockKind, a_blockPatch, a_stack, a_printedValues) (nI j) (nI v) := by
  obtain ⟨q1, q2, q3, q4⟩ := hq
  have hi : vp_in (nI j) 40 := vp_in_nI (by omega) (by omega)
  obtain ⟨x1, x2, x3, x4, x5⟩ := hX j hj
  unfold wpX_reads
  dsimp only
  rw [nI_clamp (by omega)]
  refine ⟨hi, nm_r x1 ?_⟩
  unfold qs_rd at K
  by_cases c7 : qs_K Q j = 7
  · rw [if_pos (Or.inl c7)] at K
    refine br_t (by rw [c7]; rfl) ?_
    unfold wX_reads_19
    rw [nI_clamp (by omega), x3 (by omega) (by omega) (by omega)]
    exact ⟨hi, xs_eq (by have := q2 (by omega) (by omega); omega) hv K⟩
  · refine br_f (fun z => c7 ((nI_eq (b := 7) (by omega) (by omega)).mp z)) ?_
    by_cases c8 : qs_K Q j = 8
    · rw [if_pos (Or.inr c8)] at K
      refine br_t (by rw [c8]; rfl) ?_
      unfold wX_reads_19
      rw [nI_clamp (by omega), x3 (by omega) (by omega) (by omega)]
      exact ⟨hi, xs_eq (by have := q2 (by omega) (by omega); omega) hv K⟩
    · rw [if_neg (show ¬ (qs_K Q j = 7 ∨ qs_K Q j = 8) by omega)] at K
      refine br_f (fun z => c8 ((nI_eq (b := 8) (by omega) (by omega)).mp z)) ?_
      by_cases c1 : qs_K Q j = 1
      · rw [if_pos c1] at K
        refine br_t (by rw [c1]; rfl) ⟨hi, ?_⟩
        rw [x4 (by omega) (by omega)]
        exact xs_eq (by have := q3 (by omega) (by omega); omega) hv K
      · rw [if_neg c1] at K
        refine br_f (fun z => c1 ((nI_eq (b := 1) (by omega) (by omega)).mp z)) ?_
        by_cases c2 : qs_K Q j < 2
        · rw [if_neg (show ¬ (2 ≤ qs_K Q j ∧ qs_K Q j ≤ 6) by omega)] at K
          exact br_t (nI_lt (b := 2) c2 (by decide)) K
        · refine br_f (nI_nlt (b := 2) (by omega) (by omega)) ?_
          by_cases c6 : 6 < qs_K Q j
          · rw [if_neg (show ¬ (2 ≤ qs_K Q j ∧ qs_K Q j ≤ 6) by omega)] at K
            exact br_t (nI_lt (a := 6) c6 (by omega)) K
          · rw [if_pos (show 2 ≤ qs_K Q j ∧ qs_K Q j ≤ 6 by omega)] at K
            refine br_f (nI_nlt (a := 6) (by omega) (by decide)) ⟨hi, ?_⟩
            have b5 := q3 (by omega) (by omega)
            have c5 := q4 (by omega) (by omega)
            rw [x4 (by omega) (by omega), x5 (by omega) (by omega)]
            by_cases cb : qs_B Q j = v
            · rw [if_pos (by simp [cb])] at K
              exact br_t (by rw [cb]) K
            · refine br_f (fun z => cb ((nI_eq (by omega) (by omega)).mp z)) ⟨hi, ?_⟩
              rw [show (decide (qs_B Q j = v) || decide (qs_C Q j = v)) = decide (qs_C Q j = v) by simp [cb]] at K
              exact xs_eq (by omega) hv K
theorem xs_wr {Q : qs_T} {j v : Nat} {A B : Prop} (ha : qs_K Q j ≤ 6 → qs_A Q j ≤ 5) (hv : v < 128) (f : qs_wr Q j v = true → A) (g : qs_wr Q j v = false → B) : ((if qs_K Q j ≤ 6 then nI (qs_A Q j) else -1) = nI v → A) ∧ (¬ (if qs_K Q j ≤ 6 then nI (qs_A Q j) else -1) = nI v → B) := by
  unfold qs_wr at f g
  by_cases c : qs_K Q j ≤ 6
  · have a5 := ha c
    rw [if_pos c]
    by_cases c2 : qs_A Q j = v
    · exact br_t (by rw [c2]) (f (by simp [c, c2]))
    · exact br_f (fun z => c2 ((nI_eq (by omega) (by omega)).mp z)) (g (by simp [c2]))
  · rw [if_neg c]
    refine br_f (fun z => ?_) (g (by simp [c]))
    have : ¬ nI v < 0 := nI_pos (by omega)
    rw [← z] at this
    exact this (by decide)
theorem xs_want4 {post : Int32 → Prop} {v : Nat} (hlen : f_length = nI n) (hn : n ≤ 40) (hq : ∀ i, i < n → qs_ok Q i) (hX : qs_X Q n a_kind a_first a_second a_third) (hv : v < 128) : ∀ k j, j + k = n → post (if qs_wt Q n j v = true then 1 else 0) → ∀ m, k < m → wX_wantedAfter_4 post (nI v) f_length f_compiled f_isSound f_codeEnd f_layoutDepth f_openLoops f_openBlocks f_depth f_printedCount a_kind a_first a_second a_third a_variables a_operation a_operand a_layout a_blockKind a_blockPatch a_stack a_printedValues m (nI j) := by
  intro k
  induction k with
  | zero =>
    intro j hj K m hm
    obtain ⟨m, rfl⟩ : ∃ m', m = m' + 1 := ⟨m - 1, by omega⟩
    unfold wX_wantedAfter_4
    refine xs_isB hlen hn hq hX (by omega) (fun _ => ?_) (fun h1 _ => by omega)
    rw [qs_wt_ge (by omega), if_pos rfl] at K
    exact br_f (by decide) K
  | succ k ih =>
    intro j hj K m hm
    obtain ⟨m, rfl⟩ : ∃ m', m = m' + 1 := ⟨m - 1, by omega⟩
    unfold wX_wantedAfter_4
    refine xs_isB hlen hn hq hX (by omega) (fun h => ?_) (fun h1 h7 => ?_)
    · rw [qs_wt_8 (by omega), if_pos rfl] at K
      exact br_f (by decide) K
    · refine br_t rfl ?_
      have hqj := hq j h1
      rw [qs_wt_lt h1, if_neg (show ¬ 8 ≤ qs_K Q j by omega)] at K
      refine xs_reads hn hqj hX h1 hv ?_
      by_cases cr : qs_rd Q j v = true
      · rw [if_pos cr, if_pos rfl] at K
        rw [if_pos cr]
        exact br_f (by decide) K
      · rw [if_neg cr] at K
        rw [if_neg cr]
        refine br_t rfl ?_
        refine xs_writes hn hqj hX h1 ?_
        refine xs_wr (fun h6 => hqj.2.1 (by omega) (by omega)) hv (fun hw => ?_) (fun hw => ?_)
        · rw [if_pos hw, if_neg (by decide)] at K
          exact K
        · rw [if_neg (show ¬ qs_wr Q j v = true by rw [hw]; decide)] at K
          exact nm_r (nI_1 _) (ih (j + 1) (by omega) K m (by omega))
theorem xs_want {post : Int32 → Prop} {v i : Nat} (hlen : f_length = nI n) (hn : n ≤ 40) (hq : ∀ i, i < n → qs_ok Q i) (hX : qs_X Q n a_kind a_first a_second a_third) (hv : v < 128) (hi : i < n)
    (K : post (if qs_wt Q n (i + 1) v = true then 1 else 0)) : wpX_wantedAfter post (f_length, f_compiled, f_isSound, f_codeEnd, f_layoutDepth, f_openLoops, f_openBlocks, f_depth, f_printedCount, a_kind, a_first, a_second, a_third, a_variables, a_operation, a_operand, a_layout, a_blockKind, a_blockPatch, a_stack, a_printedValues) (nI i) (nI v) :=
  nm_r (nI_1 _) ⟨n - (i + 1) + 1, xs_want4 hlen hn hq hX hv (n - (i + 1)) (i + 1) (by omega) K _ (by omega)⟩
-- fetch
variable {L : List Nat} {cl : List (Int32 × Int32)} {v i : Nat} {post : SX → Prop}
theorem xs_f53 (hL : re_S (L.map nI) f_layoutDepth a_layout) (hb : ∀ x, x ∈ L → x < 128) (hm : v ∈ L) (hl16 : L.length < 16) (hC : re_C cl f_codeEnd a_operation a_operand) (hl : cl.length < 560)
    (K : ∀ f_codeEnd a_operation a_operand f_layoutDepth a_layout, re_C (cl ++ cg_fc L v false) f_codeEnd a_operation a_operand → re_S ((9 :: cg_fl L v false).map nI) f_layoutDepth a_layout → post (f_length, f_compiled, f_isSound, f_codeEnd, f_layoutDepth, f_openLoops, f_openBlocks, f_depth, f_printedCount, a_kind, a_first, a_second, a_third, a_variables, a_operation, a_operand, a_layout, a_blockKind, a_blockPatch, a_stack, a_printedValues)) : wX_fetch_53 post (nI v) f_length f_compiled f_isSound f_codeEnd f_layoutDepth f_openLoops f_openBlocks f_depth f_printedCount a_kind a_first a_second a_third a_variables a_operation a_operand a_layout a_blockKind a_blockPatch a_stack a_printedValues := by
  unfold wX_fetch_53
  refine xc_dist hL hb (hb v hm) (fun _ => ?_) (fun z => absurd hm z)
  refine xc_write (k := 1) hC hl (by decide) ?_
  intro f_codeEnd a_operation a_operand hC'
  dsimp only
  refine xc_push (v := 9) hL hl16 (by decide) ?_
  intro f_layoutDepth a_layout hL'
  dsimp only
  exact K _ _ _ _ _ hC' hL'
theorem xs_f18 (hL : re_S (L.map nI) f_layoutDepth a_layout) (hb : ∀ x, x ∈ L → x < 128) (hm : v ∈ L) (hC : re_C cl f_codeEnd a_operation a_operand) (hl : cl.length < 560)
    (K : ∀ f_codeEnd a_operation a_operand f_layoutDepth a_layout, re_C (cl ++ cg_fc L v true) f_codeEnd a_operation a_operand → re_S ((9 :: cg_fl L v true).map nI) f_layoutDepth a_layout → post (f_length, f_compiled, f_isSound, f_codeEnd, f_layoutDepth, f_openLoops, f_openBlocks, f_depth, f_printedCount, a_kind, a_first, a_second, a_third, a_variables, a_operation, a_operand, a_layout, a_blockKind, a_blockPatch, a_stack, a_printedValues)) : wX_fetch_18 post (nI v) 0 f_length f_compiled f_isSound f_codeEnd f_layoutDepth f_openLoops f_openBlocks f_depth f_printedCount a_kind a_first a_second a_third a_variables a_operation a_operand a_layout a_blockKind a_blockPatch a_stack a_printedValues := by
  unfold wX_fetch_18 wX_fetch_23
  refine br_f (by decide) (br_t rfl ?_)
  refine xc_pull hL hb hm hC hl ?_
  intro f_codeEnd a_operation a_operand a_layout hC' hL'
  dsimp only
  obtain ⟨t1, t2, t3, t4⟩ := re_tail hL'
  rw [t2]
  refine ⟨vp_in_nI t4 (by omega), nm_e ?_⟩
  rw [nI_clamp (by omega), show vp_nar .byte 9 = nI 9 from xc_nb1 (v := 9) (by decide)]
  exact K _ _ _ _ _ hC' (re_set hL' (nI 9))
theorem xs_fetch0 (hlen : f_length = nI n) (hn : n ≤ 40) (hq : ∀ i, i < n → qs_ok Q i) (hX : qs_X Q n a_kind a_first a_second a_third) (hi : i < n) (hL : re_S (L.map nI) f_layoutDepth a_layout) (hb : ∀ x, x ∈ L → x < 128) (hm : v ∈ L) (hl16 : L.length < 16) (hC : re_C cl f_codeEnd a_operation a_operand) (hl : cl.length < 560)
    (K : ∀ f_codeEnd a_operation a_operand f_layoutDepth a_layout, re_C (cl ++ cg_fc L v (qs_mv Q n i v)) f_codeEnd a_operation a_operand → re_S ((9 :: cg_fl L v (qs_mv Q n i v)).map nI) f_layoutDepth a_layout → post (f_length, f_compiled, f_isSound, f_codeEnd, f_layoutDepth, f_openLoops, f_openBlocks, f_depth, f_printedCount, a_kind, a_first, a_second, a_third, a_variables, a_operation, a_operand, a_layout, a_blockKind, a_blockPatch, a_stack, a_printedValues)) : wpX_fetch post (f_length, f_compiled, f_isSound, f_codeEnd, f_layoutDepth, f_openLoops, f_openBlocks, f_depth, f_printedCount, a_kind, a_first, a_second, a_third, a_variables, a_operation, a_operand, a_layout, a_blockKind, a_blockPatch, a_stack, a_printedValues) (nI i) (nI v) 0 := by
  unfold wpX_fetch
  dsimp only
  have hqi := hq i hi
  have hv := hb v hm
  refine xs_writes hn hqi hX hi ?_
  refine xs_wr (fun h6 => hqi.2.1 (by omega) (by omega)) hv (fun hw => ?_) (fun hw => ?_)
  · have e : qs_mv Q n i v = true := by unfold qs_mv; rw [hw]; rfl
    rw [e] at K
    exact xs_f18 hL hb hm hC hl K
  · refine xs_want hlen hn hq hX hv hi ?_
    by_cases c : qs_wt Q n (i + 1) v = true
    · have e : qs_mv Q n i v = false := qs_mv_f c hw
      rw [e] at K
      rw [if_pos c]
      refine br_f (by decide) ?_
      unfold wX_fetch_23
      exact br_t rfl (xs_f53 hL hb hm hl16 hC hl K)
    · have e : qs_mv Q n i v = true := by unfold qs_mv; simp [c]
      rw [e] at K
      rw [if_neg c]
      exact br_t rfl (xs_f18 hL hb hm hC hl K)
theorem xs_f23 (hL : re_S (L.map nI) f_layoutDepth a_layout) (hb : ∀ x, x ∈ L → x < 128) (hm : v ∈ L) (hl16 : L.length < 16) (hC : re_C cl f_codeEnd a_operation a_operand) (hl : cl.length < 560) (z : Int32)
    (K : ∀ f_codeEnd a_operation a_operand f_layoutDepth a_layout, re_C (cl ++ cg_fc L v false) f_codeEnd a_operation a_operand → re_S ((9 :: cg_fl L v false).map nI) f_layoutDepth a_layout → post (f_length, f_compiled, f_isSound, f_codeEnd, f_layoutDepth, f_openLoops, f_openBlocks, f_depth, f_printedCount, a_kind, a_first, a_second, a_third, a_variables, a_operation, a_operand, a_layout, a_blockKind, a_blockPatch, a_stack, a_printedValues)) : wX_fetch_23 post (nI v) 1 z f_length f_compiled f_isSound f_codeEnd f_layoutDepth f_openLoops f_openBlocks f_depth f_printedCount a_kind a_first a_second a_third a_variables a_operation a_operand a_layout a_blockKind a_blockPatch a_stack a_printedValues := by
  unfold wX_fetch_23
  exact br_c (fun _ => xs_f53 hL hb hm hl16 hC hl K) (fun _ => br_f (by decide) (xs_f53 hL hb hm hl16 hC hl K))
theorem xs_fetch1 (hlen : f_length = nI n) (hn : n ≤ 40) (hq : ∀ i, i < n → qs_ok Q i) (hX : qs_X Q n a_kind a_first a_second a_third) (hi : i < n) (hL : re_S (L.map nI) f_layoutDepth a_layout) (hb : ∀ x, x ∈ L → x < 128) (hm : v ∈ L) (hl16 : L.length < 16) (hC : re_C cl f_codeEnd a_operation a_operand) (hl : cl.length < 560)
    (K : ∀ f_codeEnd a_operation a_operand f_layoutDepth a_layout, re_C (cl ++ cg_fc L v false) f_codeEnd a_operation a_operand → re_S ((9 :: cg_fl L v false).map nI) f_layoutDepth a_layout → post (f_length, f_compiled, f_isSound, f_codeEnd, f_layoutDepth, f_openLoops, f_openBlocks, f_depth, f_printedCount, a_kind, a_first, a_second, a_third, a_variables, a_operation, a_operand, a_layout, a_blockKind, a_blockPatch, a_stack, a_printedValues)) : wpX_fetch post (f_length, f_compiled, f_isSound, f_codeEnd, f_layoutDepth, f_openLoops, f_openBlocks, f_depth, f_printedCount, a_kind, a_first, a_second, a_third, a_variables, a_operation, a_operand, a_layout, a_blockKind, a_blockPatch, a_stack, a_printedValues) (nI i) (nI v) 1 := by
  unfold wpX_fetch
  dsimp only
  have hqi := hq i hi
  have hv := hb v hm
  refine xs_writes hn hqi hX hi ?_
  refine br_c (fun _ => xs_f23 hL hb hm hl16 hC hl 1 K) (fun _ => ?_)
  refine xs_want hlen hn hq hX hv hi ?_
  exact br_c (fun _ => xs_f23 hL hb hm hl16 hC hl 1 K) (fun _ => xs_f23 hL hb hm hl16 hC hl 0 K)
-- settle
theorem xs_s30 (hL : re_S ((9 :: L).map nI) f_layoutDepth a_layout) (hv : v < 128)
    (K : ∀ a_layout, re_S ((v :: L).map nI) f_layoutDepth a_layout → post (f_length, f_compiled, f_isSound, f_codeEnd, f_layoutDepth, f_openLoops, f_openBlocks, f_depth, f_printedCount, a_kind, a_first, a_second, a_third, a_variables, a_operation, a_operand, a_layout, a_blockKind, a_blockPatch, a_stack, a_printedValues)) : wX_settle_30 post (nI v) f_length f_compiled f_isSound f_codeEnd f_layoutDepth f_openLoops f_openBlocks f_depth f_printedCount a_kind a_first a_second a_third a_variables a_operation a_operand a_layout a_blockKind a_blockPatch a_stack a_printedValues := by
  unfold wX_settle_30
  obtain ⟨t1, t2, t3, t4⟩ := re_tail hL
  rw [t2]
  refine ⟨vp_in_nI t4 (by omega), nm_e ?_⟩
  rw [nI_clamp (by omega), xc_nb hv]
  exact K _ (re_set hL (nI v))
theorem xs_settle (hL : re_S ((9 :: L).map nI) f_layoutDepth a_layout) (hb : ∀ x, x ∈ L → x < 128) (hv : v < 128) (hv9 : v ≠ 9) (hC : re_C cl f_codeEnd a_operation a_operand) (hl : cl.length + 2 ≤ 560)
    (K : ∀ f_codeEnd a_operation a_operand f_layoutDepth a_layout, re_C (cl ++ cg_sc L v) f_codeEnd a_operation a_operand → re_S ((v :: L.erase v).map nI) f_layoutDepth a_layout → post (f_length, f_compiled, f_isSound, f_codeEnd, f_layoutDepth, f_openLoops, f_openBlocks, f_depth, f_printedCount, a_kind, a_first, a_second, a_third, a_variables, a_operation, a_operand, a_layout, a_blockKind, a_blockPatch, a_stack, a_printedValues)) : wpX_settle post (f_length, f_compiled, f_isSound, f_codeEnd, f_layoutDepth, f_openLoops, f_openBlocks, f_depth, f_printedCount, a_kind, a_first, a_second, a_third, a_variables, a_operation, a_operand, a_layout, a_blockKind, a_blockPatch, a_stack, a_printedValues) (nI v) := by
  have hb9 : ∀ x, x ∈ 9 :: L → x < 128 := fun x hx => by
    rcases List.mem_cons.mp hx with rfl | hx
    · decide
    · exact hb x hx
  unfold wpX_settle
  dsimp only
  unfold cg_sc at K
  refine xc_dist hL hb9 hv (fun hm => ?_) (fun hm => ?_)
  · have hm' : v ∈ L := by
      rcases List.mem_cons.mp hm with e | h
      · exact absurd e hv9
      · exact h
    have hlt := List.idxOf_lt_length_of_mem hm
    have l16 : (9 :: L).length ≤ 16 := by have := hL.1; rw [List.length_map] at this; exact this
    rw [if_pos hm'] at K
    refine br_f (nI_pos (by omega)) ?_
    refine xc_pull hL hb9 hm hC (by omega) ?_
    intro f_codeEnd a_operation a_operand a_layout hC' hL'
    dsimp only
    have pl := cg_pc_len (9 :: L) v
    refine xc_write (k := 8) hC' (by rw [List.length_append]; omega) (by decide) ?_
    intro f_codeEnd a_operation a_operand hC''
    dsimp only
    rw [List.erase_cons_tail (by simp; omega)] at hL'
    obtain ⟨t1, t2, t3, t4⟩ := re_tail hL'
    refine nm_r t2 ?_
    refine xs_s30 (L := L.erase v) t1 hv ?_
    intro a_layout hL''
    refine K _ _ _ _ _ ?_ hL''
    rw [← List.append_assoc]; exact hC''
  · have hm' : v ∉ L := fun h => hm (List.mem_cons_of_mem _ h)
    rw [if_neg hm', List.append_nil, List.erase_of_not_mem hm'] at K
    refine br_t (by decide) ?_
    exact xs_s30 hL hv (fun a_layout h => K _ _ _ _ _ hC h)
end
end
section
-- the code so far: one statement more
theorem co_9 {K : Nat → Nat} {j m : Nat} (h : sk_nx K j m) : K m = 9 ∨ K m = 11 := h.1
theorem co_jm {K : Nat → Nat} {j m : Nat} (h : sk_nx K j m) : j < m := by
  obtain ⟨_, o, r, hs⟩ := h
  exact (sk_srt (K := K) m).1 (o, j) (by rw [hs]; exact List.mem_cons_self)
section
variable {Q : qs_T} {n i : Nat} {cl : List (Int32 × Int32)} {X : Nat → Int32}
theorem co_app (h : cg_co Q n i cl X) (hl : cl.length = cg_ad Q n i) (x : Int32) (hk : qs_K Q i ≤ 8 ∨ qs_K Q i = 10) : cg_co Q n (i + 1) (cl ++ cg_em Q n i (cg_ly Q n i) x) (upd X i x) := by
  obtain ⟨h1, h2, h3⟩ := h
  refine ⟨?_, ?_, ?_⟩
  · intro j hj
    by_cases c : j = i
    · subst c; rw [pk_us, ← hl]; exact sg_new _ _
    · rw [pk_un c]; exact sg_old _ (h1 j (by omega))
  · intro j m hm hx
    have a := co_9 hx
    have b := co_jm hx
    by_cases c : m = i
    · subst c; omega
    · rw [pk_un (by omega)]; exact h2 j m (by omega) hx
  · intro m q p r hm h11 hs h10
    by_cases c : m = i
    · subst c; omega
    · rw [pk_un c]; exact h3 m q p r (by omega) h11 hs h10
theorem co_last {p : Nat} (L : List Nat) (h : qs_K Q p = 8 ∨ qs_K Q p = 9 ∨ qs_K Q p = 10) : ∃ pre kq, ∀ x, cg_em Q n p L x = pre ++ [(kq, x)] := by
  rcases h with h | h | h
  · exact ⟨cg_ar L (cg_N Q p) ++ [(1, nI ((cg_dd (cg_N Q p) 0).idxOf (qs_A Q p)))], 10, fun x => by rw [cg_em_b (by omega), cg_bt_8 h, List.append_assoc]; rfl⟩
  · exact ⟨cg_ar L (cg_N Q p), 11, fun x => by rw [cg_em_b (by omega), cg_bt_9 h]⟩
  · exact ⟨cg_ar L (cg_N Q p) ++ [(0, nI (qs_A Q p)), (1, 0)], 10, fun x => by rw [cg_em_b (by omega), cg_bt_10 h, List.append_assoc]; rfl⟩
theorem co_pk {K : Nat → Nat} {o p : Nat} {r : List (Nat × Nat)} (ho : sk_oks K i) (hs : sk_st K i = (o, p) :: r) : p < i ∧ (K p = 8 ∨ K p = 9 ∨ K p = 10) := by
  obtain ⟨a1, a2, a3, a4, a5⟩ := sk_inv i ho o p r hs
  rcases a5 with h | h
  · rw [h.1]; exact ⟨a1, by omega⟩
  · exact ⟨h.2.1, Or.inr (Or.inl h.2.2.1)⟩
-- where a jump waits for its operand
theorem co_at {o p : Nat} {r : List (Nat × Nat)} (h : cg_co Q n i cl X) (ho : sk_oks (qs_K Q) i) (hs : sk_st (qs_K Q) i = (o, p) :: r) : ∃ kq, cl[cg_ad Q n (p + 1) - 1]? = some (kq, X p) ∧ 1 ≤ cg_ad Q n (p + 1) := by
  obtain ⟨hp, hk⟩ := co_pk ho hs
  obtain ⟨pre, kq, e⟩ := co_last (n := n) (cg_ly Q n p) hk
  have s := h.1 p hp
  rw [e] at s
  have a := (sg_cons (sg_r s)).1
  have b : cg_ad Q n (p + 1) = cg_ad Q n p + pre.length + 1 := by
    rw [cg_ad_s Q n p (X p), e, List.length_append]; rfl
  refine ⟨kq, ?_, by omega⟩
  rw [b, show cg_ad Q n p + pre.length + 1 - 1 = cg_ad Q n p + pre.length by omega]
  exact a
theorem co_patch {o p : Nat} {r : List (Nat × Nat)} {kq y x : Int32} (h : cg_co Q n i cl X) (ho : sk_oks (qs_K Q) i) (hl : cl.length = cg_ad Q n i) (hk : qs_K Q i = 9 ∨ qs_K Q i = 11) (hs : sk_st (qs_K Q) i = (o, p) :: r) (hy : cl[cg_ad Q n (p + 1) - 1]? = some (kq, y)) (hx : qs_K Q i = 11 → qs_K Q o = 10 → x = nI (cg_ad Q n (o + 1) - 2)) :
    cg_co Q n (i + 1) ((cl ++ cg_em Q n i (cg_ly Q n i) x).set (cg_ad Q n (p + 1) - 1) (kq, cg_tg Q n p i)) (upd (upd X i x) p (cg_tg Q n p i)) := by
  obtain ⟨hp, hkp⟩ := co_pk ho hs
  obtain ⟨h1, h2, h3⟩ := h
  obtain ⟨pre, kq', e⟩ := co_last (n := n) (cg_ly Q n p) hkp
  have b : cg_ad Q n (p + 1) = cg_ad Q n p + pre.length + 1 := by
    rw [cg_ad_s Q n p 0, e, List.length_append]; rfl
  have sp := h1 p hp
  rw [e] at sp
  have ek : kq' = kq := by
    have a := (sg_cons (sg_r sp)).1
    rw [b, show cg_ad Q n p + pre.length + 1 - 1 = cg_ad Q n p + pre.length by omega, a] at hy
    injection hy with hy
    injection hy with hy
  subst ek
  have eq : cg_ad Q n (p + 1) - 1 = cg_ad Q n p + pre.length := by omega
  refine ⟨?_, ?_, ?_⟩
  · intro j hj
    by_cases c : j = p
    · subst c
      rw [pk_us, eq, e]
      exact sg_setl (sg_old _ sp)
    · rw [pk_un c]
      have len : cg_ad Q n (j + 1) = cg_ad Q n j + (cg_em Q n j (cg_ly Q n j) (upd X i x j)).length := cg_ad_s Q n j _
      refine sg_set ?_ ?_
      · by_cases ci : j = i
        · subst ci; rw [pk_us, ← hl]; exact sg_new _ _
        · rw [pk_un ci]; exact sg_old _ (h1 j (by omega))
      · by_cases cj : j < p
        · right
          have := cg_ad_mono Q n (j + 1) p (by omega)
          omega
        · left
          have := cg_ad_mono Q n (p + 1) j (by omega)
          omega
  · intro j m hm hn
    have jm := co_jm hn
    by_cases c : m = i
    · subst c
      obtain ⟨_, o', r', hs'⟩ := hn
      rw [hs] at hs'
      injection hs' with e1
      injection e1 with e2 e3
      subst e3
      exact pk_us
    · have hne : p ≠ j := by
        have := sk_gone hn i (by omega) (o, p) (by rw [hs]; exact List.mem_cons_self)
        exact this
      rw [pk_un (Ne.symm hne), pk_un (by omega)]
      exact h2 j m (by omega) hn
  · intro m q p' r' hm h11 hs' h10
    have mp : m ≠ p := by
      intro em; subst em
      omega
    rw [pk_un mp]
    by_cases c : m = i
    · subst c
      rw [hs] at hs'
      injection hs' with e1
      injection e1 with e2 e3
      subst e2
      rw [pk_us]
      exact hx h11 h10
    · rw [pk_un c]
      exact h3 m q p' r' (by omega) h11 hs' h10
end
end
section
section
variable {f_length f_compiled f_isSound f_codeEnd f_layoutDepth f_openLoops f_openBlocks f_depth f_printedCount : Int32} {a_kind a_first a_second a_third a_variables a_operation a_operand a_layout a_blockKind a_blockPatch a_stack a_printedValues : Nat → Int32}
variable {Q : qs_T} {n i : Nat} {L : List Nat} {cl : List (Int32 × Int32)} {post : SX → Prop}
theorem xt_65 (hn : n ≤ 40) (hq : qs_ok Q i) (hX : qs_X Q n a_kind a_first a_second a_third) (hi : i < n) (hL : re_S ((9 :: 9 :: L).map nI) f_layoutDepth a_layout) (hC : re_C cl f_codeEnd a_operation a_operand) (hl : cl.length < 560)
    (K : ∀ f_codeEnd a_operation a_operand f_layoutDepth, re_C (cl ++ [(nI (qs_K Q i), 0)]) f_codeEnd a_operation a_operand → re_S ((9 :: L).map nI) f_layoutDepth a_layout → post (f_length, f_compiled, f_isSound, f_codeEnd, f_layoutDepth, f_openLoops, f_openBlocks, f_depth, f_printedCount, a_kind, a_first, a_second, a_third, a_variables, a_operation, a_operand, a_layout, a_blockKind, a_blockPatch, a_stack, a_printedValues)) : wX_compileArithmetic_65 post (nI i) f_length f_compiled f_isSound f_codeEnd f_layoutDepth f_openLoops f_openBlocks f_depth f_printedCount a_kind a_first a_second a_third a_variables a_operation a_operand a_layout a_blockKind a_blockPatch a_stack a_printedValues := by
  have k11 := hq.1
  unfold wX_compileArithmetic_65
  rw [nI_clamp (by omega), (hX i hi).1]
  refine ⟨vp_in_nI (by omega) (by omega), ?_⟩
  refine xc_write hC hl (by omega) ?_
  intro f_codeEnd a_operation a_operand hC'
  dsimp only
  obtain ⟨t1, t2, t3, t4⟩ := re_tail hL
  exact nm_r t2 (K _ _ _ _ hC' t1)
theorem xt_arith (hlen : f_length = nI n) (hn : n ≤ 40) (hq : ∀ i, i < n → qs_ok Q i) (hX : qs_X Q n a_kind a_first a_second a_third) (hi : i < n) (h2 : 2 ≤ qs_K Q i) (h6 : qs_K Q i ≤ 6) (hb : ∀ x, x ∈ L → x < 9) (hlL : L.length ≤ 9) (hB : qs_B Q i ∈ L) (hCc : qs_C Q i ∈ L)
    (hL : re_S (L.map nI) f_layoutDepth a_layout) (hC : re_C cl f_codeEnd a_operation a_operand) (hl : cl.length + 3 ≤ 560)
    (K : ∀ f_codeEnd a_operation a_operand f_layoutDepth a_layout, re_C (cl ++ (cg_sa Q n i L ++ [(nI (qs_K Q i), 0)])) f_codeEnd a_operation a_operand → re_S ((9 :: cg_sl Q n i L).map nI) f_layoutDepth a_layout → post (f_length, f_compiled, f_isSound, f_codeEnd, f_layoutDepth, f_openLoops, f_openBlocks, f_depth, f_printedCount, a_kind, a_first, a_second, a_third, a_variables, a_operation, a_operand, a_layout, a_blockKind, a_blockPatch, a_stack, a_printedValues)) : wpX_compileArithmetic post (f_length, f_compiled, f_isSound, f_codeEnd, f_layoutDepth, f_openLoops, f_openBlocks, f_depth, f_printedCount, a_kind, a_first, a_second, a_third, a_variables, a_operation, a_operand, a_layout, a_blockKind, a_blockPatch, a_stack, a_printedValues) (nI i) := by
  have hqi := hq i hi
  have hi40 : vp_in (nI i) 40 := vp_in_nI (by omega) (by omega)
  obtain ⟨x1, x2, x3, x4, x5⟩ := hX i hi
  have b9 := hb _ hB
  have c9 := hb _ hCc
  have hb' : ∀ x, x ∈ L → x < 128 := fun x hx => by have := hb x hx; omega
  have esl : cg_sl Q n i L = if qs_B Q i = qs_C Q i then L else cg_fl (cg_fl L (qs_B Q i) (qs_mv Q n i (qs_B Q i))) (qs_C Q i) (qs_mv Q n i (qs_C Q i)) := by
    unfold cg_sl; rw [if_neg (by omega), if_neg (by omega), if_neg (by omega)]
  rw [esl] at K
  unfold cg_sa at K
  unfold wpX_compileArithmetic
  dsimp only
  rw [nI_clamp (by omega)]
  refine ⟨hi40, nm_r (x4 (by omega) h6) ⟨hi40, nm_r (x5 h2 h6) ?_⟩⟩
  by_cases c : qs_B Q i = qs_C Q i
  · rw [if_pos c, if_pos c] at K
    refine br_t (by rw [c]) ?_
    unfold wX_compileArithmetic_27
    refine xs_fetch1 hlen hn hq hX hi hL hb' hB (by omega) hC (by omega) ?_
    intro f_codeEnd a_operation a_operand f_layoutDepth a_layout hC' hL'
    dsimp only
    refine br_t (by rw [c]) ?_
    have hb9 : ∀ x, x ∈ 9 :: L → x < 128 := fun x hx => by
      rcases List.mem_cons.mp hx with rfl | hx
      · decide
      · exact hb' x hx
    refine xc_dist (L := 9 :: L) hL' hb9 (by omega) (fun _ => ?_) (fun z => absurd (List.mem_cons_of_mem _ hB) z)
    refine xc_write (k := 1) hC' (by rw [List.length_append]; show _ + 1 < _; omega) (by decide) ?_
    intro f_codeEnd a_operation a_operand hC''
    dsimp only
    refine xc_push (v := 9) (L := 9 :: L) hL' (by rw [List.length_cons]; omega) (by decide) ?_
    intro f_layoutDepth a_layout hL''
    dsimp only
    refine xt_65 (L := L) hn hqi hX hi hL'' hC'' (by rw [List.length_append, List.length_append]; show _ + 1 + 1 < _; omega) ?_
    intro f_codeEnd a_operation a_operand f_layoutDepth h1 h2
    refine K _ _ _ _ _ ?_ h2
    have e : cl ++ ([(1, nI (L.idxOf (qs_B Q i))), (1, nI ((9 :: L).idxOf (qs_B Q i)))] ++ [(nI (qs_K Q i), 0)]) = cl ++ cg_fc L (qs_B Q i) false ++ [(nI 1, nI ((9 :: L).idxOf (qs_B Q i)))] ++ [(nI (qs_K Q i), 0)] := by
      rw [List.append_assoc, List.append_assoc]; rfl
    rw [e]; exact h1
  · rw [if_neg c, if_neg c] at K
    refine br_f (fun z => c ((nI_eq (by omega) (by omega)).mp z)) ?_
    unfold wX_compileArithmetic_27
    refine xs_fetch0 hlen hn hq hX hi hL hb' hB (by omega) hC (by omega) ?_
    intro f_codeEnd a_operation a_operand f_layoutDepth a_layout hC' hL'
    dsimp only
    refine br_f (fun z => c ((nI_eq (by omega) (by omega)).mp z)) ?_
    generalize qs_mv Q n i (qs_B Q i) = mb at *
    have l1 := cg_fl_len L (qs_B Q i) mb
    have f1 := cg_fc_len L (qs_B Q i) mb
    have hb9 : ∀ x, x ∈ 9 :: cg_fl L (qs_B Q i) mb → x < 128 := fun x hx => by
      rcases List.mem_cons.mp hx with rfl | hx
      · decide
      · exact hb' x (cg_fl_mem hx)
    have cL1 : qs_C Q i ∈ cg_fl L (qs_B Q i) mb := cg_fl_keep hCc (fun e => absurd e.symm c)
    refine xs_fetch0 (L := 9 :: cg_fl L (qs_B Q i) mb) hlen hn hq hX hi hL' hb9 (List.mem_cons_of_mem _ cL1) (by rw [List.length_cons]; omega) hC' (by rw [List.length_append]; omega) ?_
    intro f_codeEnd a_operation a_operand f_layoutDepth a_layout hC'' hL''
    dsimp only
    generalize qs_mv Q n i (qs_C Q i) = mc at *
    have f2 := cg_fc_len (9 :: cg_fl L (qs_B Q i) mb) (qs_C Q i) mc
    have e1 : cg_fl (9 :: cg_fl L (qs_B Q i) mb) (qs_C Q i) mc = 9 :: cg_fl (cg_fl L (qs_B Q i) mb) (qs_C Q i) mc := by
      unfold cg_fl
      cases mc with
      | true => exact List.erase_cons_tail (by simp; omega)
      | false => rfl
    rw [e1] at hL''
    refine xt_65 (L := cg_fl (cg_fl L (qs_B Q i) mb) (qs_C Q i) mc) hn hqi hX hi hL'' hC'' (by rw [List.length_append, List.length_append]; omega) ?_
    intro f_codeEnd a_operation a_operand f_layoutDepth h1 h2
    refine K _ _ _ _ _ ?_ h2
    rw [← List.append_assoc, ← List.append_assoc]; exact h1
theorem xt_92 (hn : n ≤ 40) (hq : qs_ok Q i) (hX : qs_X Q n a_kind a_first a_second a_third) (hi : i < n) (h6 : qs_K Q i ≤ 6) (hb : ∀ x, x ∈ L → x < 128) (hL : re_S ((9 :: L).map nI) f_layoutDepth a_layout) (hC : re_C cl f_codeEnd a_operation a_operand) (hl : cl.length + 2 ≤ 560)
    (K : ∀ f_codeEnd a_operation a_operand f_layoutDepth a_layout, re_C (cl ++ cg_sc L (qs_A Q i)) f_codeEnd a_operation a_operand → re_S ((qs_A Q i :: L.erase (qs_A Q i)).map nI) f_layoutDepth a_layout → post (f_length, f_compiled, f_isSound, f_codeEnd, f_layoutDepth, f_openLoops, f_openBlocks, f_depth, f_printedCount, a_kind, a_first, a_second, a_third, a_variables, a_operation, a_operand, a_layout, a_blockKind, a_blockPatch, a_stack, a_printedValues)) : wX_compileStraight_92 post (nI i) f_length f_compiled f_isSound f_codeEnd f_layoutDepth f_openLoops f_openBlocks f_depth f_printedCount a_kind a_first a_second a_third a_variables a_operation a_operand a_layout a_blockKind a_blockPatch a_stack a_printedValues := by
  have a5 := hq.2.1 (by omega) (by omega)
  unfold wX_compileStraight_92
  refine xs_writes hn hq hX hi ?_
  rw [if_pos h6]
  refine xs_settle hL hb (by omega) (by omega) hC hl ?_
  intro f_codeEnd a_operation a_operand f_layoutDepth a_layout h1 h2
  exact K _ _ _ _ _ h1 h2
theorem xt_straight (hlen : f_length = nI n) (hn : n ≤ 40) (hq : ∀ i, i < n → qs_ok Q i) (hX : qs_X Q n a_kind a_first a_second a_third) (hi : i < n) (h7 : qs_K Q i ≤ 7) (ho : sk_oks (qs_K Q) i) (hk : lk_ok Q n i L)
    (hL : re_S (L.map nI) f_layoutDepth a_layout) (hC : re_C cl f_codeEnd a_operation a_operand) (hl : cl.length + 13 ≤ 560)
    (K : ∀ f_codeEnd a_operation a_operand f_layoutDepth a_layout, re_C (cl ++ cg_em Q n i L 0) f_codeEnd a_operation a_operand → re_S ((cg_nl Q n i L).map nI) f_layoutDepth a_layout → post (f_length, f_compiled, f_isSound, f_codeEnd, f_layoutDepth, f_openLoops, f_openBlocks, f_depth, f_printedCount, a_kind, a_first, a_second, a_third, a_variables, a_operation, a_operand, a_layout, a_blockKind, a_blockPatch, a_stack, a_printedValues)) : wpX_compileStraight post (f_length, f_compiled, f_isSound, f_codeEnd, f_layoutDepth, f_openLoops, f_openBlocks, f_depth, f_printedCount, a_kind, a_first, a_second, a_third, a_variables, a_operation, a_operand, a_layout, a_blockKind, a_blockPatch, a_stack, a_printedValues) (nI i) := by
  have hqi := hq i hi
  have hi40 : vp_in (nI i) 40 := vp_in_nI (by omega) (by omega)
  obtain ⟨x1, x2, x3, x4, x5⟩ := hX i hi
  have hlL := lk_len hk ho
  have N9 := cg_N_9 ho
  have hb : ∀ x, x ∈ L → x < 9 := fun x hx => by have := hk.2.1 x hx; omega
  have hb' : ∀ x, x ∈ L → x < 128 := fun x hx => by have := hb x hx; omega
  unfold wpX_compileStraight
  dsimp only
  rw [nI_clamp (by omega)]
  refine ⟨hi40, nm_r x1 ?_⟩
  by_cases k7 : qs_K Q i = 7
  · rw [cg_em_p k7] at K
    have enl : cg_nl Q n i L = cg_fl L (qs_A Q i) (qs_mv Q n i (qs_A Q i)) := by
      unfold cg_nl; rw [if_pos k7]; unfold cg_sl; rw [if_pos k7]
    rw [enl] at K
    refine br_t (by rw [k7]; rfl) ⟨hi40, ?_⟩
    rw [x3 (by omega) (by omega) (by omega)]
    refine xs_fetch0 hlen hn hq hX hi hL hb' (lk_rdA hqi hk k7) (by omega) hC (by omega) ?_
    intro f_codeEnd a_operation a_operand f_layoutDepth a_layout hC' hL'
    dsimp only
    have f1 := cg_fc_len L (qs_A Q i) (qs_mv Q n i (qs_A Q i))
    refine xc_write (k := 9) hC' (by rw [List.length_append]; omega) (by decide) ?_
    intro f_codeEnd a_operation a_operand hC''
    dsimp only
    obtain ⟨t1, t2, t3, t4⟩ := re_tail hL'
    refine nm_r t2 (K _ _ _ _ _ ?_ t1)
    rw [← List.append_assoc]; exact hC''
  · have h6 : qs_K Q i ≤ 6 := by omega
    have enl : cg_nl Q n i L = qs_A Q i :: (cg_sl Q n i L).erase (qs_A Q i) := by
      unfold cg_nl; rw [if_neg k7, if_pos h6]
    rw [cg_em_s h6, enl] at K
    have hbs : ∀ x, x ∈ cg_sl Q n i L → x < 128 := fun x hx => hb' x (lk_sl_sub hx)
    have spl := cg_sp_len Q n i L
    refine br_f (fun z => k7 ((nI_eq (b := 7) (by omega) (by omega)).mp z)) ?_
    by_cases k0 : qs_K Q i = 0
    · have e1 : cg_sp Q n i L = [(0, qs_V Q i)] := by unfold cg_sp; rw [if_neg k7, if_pos k0]
      have e2 : cg_sl Q n i L = L := by unfold cg_sl; rw [if_neg k7, if_pos k0]
      rw [e1, e2] at K
      refine br_t (by rw [k0]; rfl) ⟨hi40, ?_⟩
      rw [(x2 k0).2]
      refine xc_write (k := 0) hC (by omega) (by decide) ?_
      intro f_codeEnd a_operation a_operand hC'
      dsimp only
      refine xc_push (v := 9) hL (by omega) (by decide) ?_
      intro f_layoutDepth a_layout hL'
      dsimp only
      refine xt_92 hn hqi hX hi h6 hb' hL' hC' (by rw [List.length_append]; show _ + 1 + 2 ≤ _; omega) ?_
      intro f_codeEnd a_operation a_operand f_layoutDepth a_layout h1 h2
      refine K _ _ _ _ _ ?_ h2
      rw [← List.append_assoc]; exact h1
    · refine br_f (nI_ne0 (by omega) (by omega)) ?_
      by_cases k1 : qs_K Q i = 1
      · have e1 : cg_sp Q n i L = cg_fc L (qs_B Q i) (qs_mv Q n i (qs_B Q i)) := by unfold cg_sp; rw [if_neg k7, if_neg k0, if_pos k1]
        have e2 : cg_sl Q n i L = cg_fl L (qs_B Q i) (qs_mv Q n i (qs_B Q i)) := by unfold cg_sl; rw [if_neg k7, if_neg k0, if_pos k1]
        rw [e2] at hbs
        rw [e1, e2] at K
        refine br_t (by rw [k1]; rfl) ⟨hi40, ?_⟩
        rw [x4 (by omega) h6]
        refine xs_fetch0 hlen hn hq hX hi hL hb' (lk_rdB hqi hk (by omega) h6) (by omega) hC (by omega) ?_
        intro f_codeEnd a_operation a_operand f_layoutDepth a_layout hC' hL'
        dsimp only
        have f1 := cg_fc_len L (qs_B Q i) (qs_mv Q n i (qs_B Q i))
        refine xt_92 hn hqi hX hi h6 hbs hL' hC' (by rw [List.length_append]; omega) ?_
        intro f_codeEnd a_operation a_operand f_layoutDepth a_layout h1 h2
        refine K _ _ _ _ _ ?_ h2
        rw [← List.append_assoc]; exact h1
      · have e1 : cg_sp Q n i L = cg_sa Q n i L ++ [(nI (qs_K Q i), 0)] := by unfold cg_sp; rw [if_neg k7, if_neg k0, if_neg k1]
        rw [e1] at spl
        rw [e1] at K
        refine br_f (fun z => k1 ((nI_eq (b := 1) (by omega) (by omega)).mp z)) ?_
        refine xt_arith hlen hn hq hX hi (by omega) h6 hb hlL (lk_rdB hqi hk (by omega) h6) (lk_rdC hqi hk (by omega) h6) hL hC (by omega) ?_
        intro f_codeEnd a_operation a_operand f_layoutDepth a_layout hC' hL'
        dsimp only
        refine xt_92 hn hqi hX hi h6 hbs hL' hC' (by rw [List.length_append]; omega) ?_
        intro f_codeEnd a_operation a_operand f_layoutDepth a_layout h1 h2
        refine K _ _ _ _ _ ?_ h2
        rw [← List.append_assoc]; exact h1
end
end
section
section
variable {f_length f_compiled f_isSound f_codeEnd f_layoutDepth f_openLoops f_openBlocks f_depth f_printedCount : Int32} {a_kind a_first a_second a_third a_variables a_operation a_operand a_layout a_blockKind a_blockPatch a_stack a_printedValues : Nat → Int32}
variable {Q : qs_T} {n i l : Nat} {L : List Nat} {cl : List (Int32 × Int32)} {post : SX → Prop} {kl pl : List Int32}
theorem xb_open {k : Nat} (hk : k < 128) (hC : re_C cl f_codeEnd a_operation a_operand) (hB : re_S kl f_openBlocks a_blockKind) (hP : re_S pl f_openBlocks a_blockPatch) (h4 : kl.length < 4) (hlen : pl.length = kl.length)
    (K : ∀ f_openBlocks a_blockKind a_blockPatch, re_S (nI k :: kl) f_openBlocks a_blockKind → re_S (nI cl.length :: pl) f_openBlocks a_blockPatch → post (f_length, f_compiled, f_isSound, f_codeEnd, f_layoutDepth, f_openLoops, f_openBlocks, f_depth, f_printedCount, a_kind, a_first, a_second, a_third, a_variables, a_operation, a_operand, a_layout, a_blockKind, a_blockPatch, a_stack, a_printedValues)) : wpX_openBlock post (f_length, f_compiled, f_isSound, f_codeEnd, f_layoutDepth, f_openLoops, f_openBlocks, f_depth, f_printedCount, a_kind, a_first, a_second, a_third, a_variables, a_operation, a_operand, a_layout, a_blockKind, a_blockPatch, a_stack, a_printedValues) (nI k) := by
  have h560 := hC.1
  unfold wpX_openBlock
  dsimp only
  have hi : vp_in f_openBlocks 4 := by rw [hB.2.1]; exact vp_in_nI h4 (by omega)
  refine ⟨hi, nm_e ⟨hi, nm_e (nm_r (e' := nI (kl.length + 1)) (by rw [hB.2.1]; exact nI_1 _) ?_)⟩⟩
  have es : vp_nar .short f_codeEnd.toInt16.toInt32 = nI cl.length := by rw [hC.2.1]; exact xc_ns (by omega)
  rw [xc_nb hk, es, hB.2.1, nI_clamp (by omega)]
  have a := re_push hB (by omega) (nI k)
  have b := re_push hP (by omega) (nI cl.length)
  rw [hlen] at b
  exact K _ _ _ a b
theorem xb_8 (hn : n ≤ 40) (hq : qs_ok Q i) (hX : qs_X Q n a_kind a_first a_second a_third) (hi : i < n) (h8 : qs_K Q i = 8)
    (hol : f_openLoops = nI l) (hl3 : l ≤ 3) (hnd : L.Nodup) (hm : ∀ v, v ∈ L ↔ v < 6 + l) (hL : re_S (L.map nI) f_layoutDepth a_layout) (hC : re_C cl f_codeEnd a_operation a_operand) (hl : cl.length + 13 ≤ 560)
    (hB : re_S kl f_openBlocks a_blockKind) (hP : re_S pl f_openBlocks a_blockPatch) (h4 : kl.length < 4) (hlen : pl.length = kl.length)
    (K : ∀ f_codeEnd a_operation a_operand a_layout f_openBlocks a_blockKind a_blockPatch, re_C (cl ++ (cg_ar L (6 + l) ++ [(1, nI ((cg_dd (6 + l) 0).idxOf (qs_A Q i))), (10, 0)])) f_codeEnd a_operation a_operand → re_S ((cg_dd (6 + l) 0).map nI) f_layoutDepth a_layout → re_S (nI 8 :: kl) f_openBlocks a_blockKind → re_S (nI (cl.length + (cg_ar L (6 + l)).length + 1) :: pl) f_openBlocks a_blockPatch → post (f_length, f_compiled, f_isSound, f_codeEnd, f_layoutDepth, f_openLoops, f_openBlocks, f_depth, f_printedCount, a_kind, a_first, a_second, a_third, a_variables, a_operation, a_operand, a_layout, a_blockKind, a_blockPatch, a_stack, a_printedValues)) : wpX_compileBoundary post (f_length, f_compiled, f_isSound, f_codeEnd, f_layoutDepth, f_openLoops, f_openBlocks, f_depth, f_printedCount, a_kind, a_first, a_second, a_third, a_variables, a_operation, a_operand, a_layout, a_blockKind, a_blockPatch, a_stack, a_printedValues) (nI i) := by
  have a5 := hq.2.1 (by omega) (by omega)
  have hi40 : vp_in (nI i) 40 := vp_in_nI (by omega) (by omega)
  obtain ⟨x1, x2, x3, x4, x5⟩ := hX i hi
  have al := cg_ar_len L (6 + l)
  unfold wpX_compileBoundary
  dsimp only
  rw [nI_clamp (by omega)]
  refine ⟨hi40, nm_r x1 ?_⟩
  refine xc_arrange hol hl3 hnd hm hL hC (by omega) ?_
  intro f_codeEnd a_operation a_operand a_layout hC1 hL1
  dsimp only
  refine br_t (by rw [h8]; rfl) ⟨hi40, ?_⟩
  rw [x3 (by omega) (by omega) (by omega)]
  have mem : qs_A Q i ∈ cg_dd (6 + l) 0 := by rw [cg_dd_mem]; omega
  refine xc_dist hL1 (fun x hx => by rw [cg_dd_mem] at hx; omega) (by omega) (fun _ => ?_) (fun z => absurd mem z)
  refine xc_write (k := 1) hC1 (by rw [List.length_append]; omega) (by decide) ?_
  intro f_codeEnd a_operation a_operand hC2
  dsimp only
  refine xb_open (k := 8) (by decide) hC2 hB hP h4 hlen ?_
  intro f_openBlocks a_blockKind a_blockPatch hB2 hP2
  dsimp only
  refine xc_write (k := 10) hC2 (by rw [List.length_append, List.length_append]; show _ + _ + 1 < _; omega) (by decide) ?_
  intro f_codeEnd a_operation a_operand hC3
  dsimp only
  refine K _ _ _ _ _ _ _ ?_ hL1 hB2 ?_
  · have e : cl ++ (cg_ar L (6 + l) ++ [(1, nI ((cg_dd (6 + l) 0).idxOf (qs_A Q i))), (10, 0)]) = cl ++ cg_ar L (6 + l) ++ [(nI 1, nI ((cg_dd (6 + l) 0).idxOf (qs_A Q i)))] ++ [(nI 10, 0)] := by
      simp only [List.append_assoc]; rfl
    rw [e]; exact hC3
  · rw [List.length_append, List.length_append] at hP2; exact hP2
theorem xb_10 (hn : n ≤ 40) (hq : qs_ok Q i) (hX : qs_X Q n a_kind a_first a_second a_third) (hi : i < n) (h10 : qs_K Q i = 10)
    (hol : f_openLoops = nI l) (hl3 : l ≤ 3) (hnd : L.Nodup) (hm : ∀ v, v ∈ L ↔ v < 6 + l) (hL : re_S (L.map nI) f_layoutDepth a_layout) (hC : re_C cl f_codeEnd a_operation a_operand) (hl : cl.length + 13 ≤ 560)
    (hB : re_S kl f_openBlocks a_blockKind) (hP : re_S pl f_openBlocks a_blockPatch) (h4 : kl.length < 4) (hlen : pl.length = kl.length)
    (K : ∀ f_codeEnd a_operation a_operand f_layoutDepth a_layout f_openBlocks a_blockKind a_blockPatch, re_C (cl ++ (cg_ar L (6 + l) ++ [(0, nI (qs_A Q i)), (1, 0), (10, 0)])) f_codeEnd a_operation a_operand → re_S ((cg_dd (6 + l + 1) 0).map nI) f_layoutDepth a_layout → re_S (nI 10 :: kl) f_openBlocks a_blockKind → re_S (nI (cl.length + (cg_ar L (6 + l)).length + 1 + 1) :: pl) f_openBlocks a_blockPatch → post (f_length, f_compiled, f_isSound, f_codeEnd, f_layoutDepth, nI (l + 1), f_openBlocks, f_depth, f_printedCount, a_kind, a_first, a_second, a_third, a_variables, a_operation, a_operand, a_layout, a_blockKind, a_blockPatch, a_stack, a_printedValues)) : wpX_compileBoundary post (f_length, f_compiled, f_isSound, f_codeEnd, f_layoutDepth, f_openLoops, f_openBlocks, f_depth, f_printedCount, a_kind, a_first, a_second, a_third, a_variables, a_operation, a_operand, a_layout, a_blockKind, a_blockPatch, a_stack, a_printedValues) (nI i) := by
  have a5 := hq.2.1 (by omega) (by omega)
  have hi40 : vp_in (nI i) 40 := vp_in_nI (by omega) (by omega)
  obtain ⟨x1, x2, x3, x4, x5⟩ := hX i hi
  have al := cg_ar_len L (6 + l)
  unfold wpX_compileBoundary
  dsimp only
  rw [nI_clamp (by omega)]
  refine ⟨hi40, nm_r x1 ?_⟩
  refine xc_arrange hol hl3 hnd hm hL hC (by omega) ?_
  intro f_codeEnd a_operation a_operand a_layout hC1 hL1
  dsimp only
  refine br_f (by rw [h10]; decide) (br_t (by rw [h10]; rfl) ⟨hi40, ?_⟩)
  rw [x3 (by omega) (by omega) (by omega)]
  refine xc_write (k := 0) hC1 (by rw [List.length_append]; omega) (by decide) ?_
  intro f_codeEnd a_operation a_operand hC2
  dsimp only
  rw [hol, show (6 : Int32) + nI l = nI (6 + l) from nI_add 6 l]
  refine xc_push hL1 (by rw [cg_dd_len]; omega) (by omega) ?_
  intro f_layoutDepth a_layout hL2
  dsimp only
  refine nm_r (nI_1 _) ?_
  refine xc_write (k := 1) hC2 (by rw [List.length_append, List.length_append]; show _ + _ + 1 < _; omega) (by decide) ?_
  intro f_codeEnd a_operation a_operand hC3
  dsimp only
  refine xb_open (k := 10) (by decide) hC3 hB hP h4 hlen ?_
  intro f_openBlocks a_blockKind a_blockPatch hB2 hP2
  dsimp only
  refine xc_write (k := 10) hC3 (by rw [List.length_append, List.length_append, List.length_append]; show _ + _ + 1 + 1 < _; omega) (by decide) ?_
  intro f_codeEnd a_operation a_operand hC4
  dsimp only
  refine K _ _ _ _ _ _ _ _ ?_ ?_ hB2 ?_
  · have e : cl ++ (cg_ar L (6 + l) ++ [(0, nI (qs_A Q i)), (1, 0), (10, 0)]) = cl ++ cg_ar L (6 + l) ++ [(nI 0, nI (qs_A Q i))] ++ [(nI 1, 0)] ++ [(nI 10, 0)] := by
      simp only [List.append_assoc]; rfl
    rw [e]; exact hC4
  · rw [cg_dd_0]; exact hL2
  · rw [List.length_append, List.length_append, List.length_append] at hP2; exact hP2
theorem xb_9 {q : Nat} {b kq y : Int32} (hn : n ≤ 40) (hX : qs_X Q n a_kind a_first a_second a_third) (hi : i < n) (h9 : qs_K Q i = 9)
    (hol : f_openLoops = nI l) (hl3 : l ≤ 3) (hnd : L.Nodup) (hm : ∀ v, v ∈ L ↔ v < 6 + l) (hL : re_S (L.map nI) f_layoutDepth a_layout) (hC : re_C cl f_codeEnd a_operation a_operand) (hl : cl.length + 13 ≤ 560)
    (hP : re_S (nI q :: pl) f_openBlocks a_blockPatch) (h4 : pl.length < 4) (hq : cl[q]? = some (kq, y))
    (K : ∀ f_codeEnd a_operation a_operand a_layout a_blockPatch, re_C ((cl ++ (cg_ar L (6 + l) ++ [(11, 0)])).set q (kq, nI (cl.length + (cg_ar L (6 + l)).length + 1))) f_codeEnd a_operation a_operand → re_S ((cg_dd (6 + l) 0).map nI) f_layoutDepth a_layout → re_S (nI (cl.length + (cg_ar L (6 + l)).length) :: pl) f_openBlocks a_blockPatch → post (f_length, f_compiled, f_isSound, f_codeEnd, f_layoutDepth, f_openLoops, f_openBlocks, f_depth, f_printedCount, a_kind, a_first, a_second, a_third, a_variables, a_operation, a_operand, a_layout, a_blockKind, a_blockPatch, a_stack, a_printedValues)) : wpX_compileBoundary post (f_length, f_compiled, f_isSound, f_codeEnd, f_layoutDepth, f_openLoops, f_openBlocks, f_depth, f_printedCount, a_kind, a_first, a_second, a_third, a_variables, a_operation, a_operand, a_layout, a_blockKind, a_blockPatch, a_stack, a_printedValues) (nI i) := by
  have hi40 : vp_in (nI i) 40 := vp_in_nI (by omega) (by omega)
  obtain ⟨x1, x2, x3, x4, x5⟩ := hX i hi
  have al := cg_ar_len L (6 + l)
  have ql := re_lt hq
  unfold wpX_compileBoundary
  dsimp only
  rw [nI_clamp (by omega)]
  refine ⟨hi40, nm_r x1 ?_⟩
  refine xc_arrange hol hl3 hnd hm hL hC (by omega) ?_
  intro f_codeEnd a_operation a_operand a_layout hC1 hL1
  dsimp only
  refine br_f (by rw [h9]; decide) (br_f (by rw [h9]; decide) (br_t (by rw [h9]; rfl) ?_))
  obtain ⟨t1, t2, t3, t4⟩ := re_tail hP
  have h560 := hC1.1
  rw [t2, nI_clamp (by omega)]
  refine ⟨vp_in_nI h4 (by omega), nm_r t3 ⟨vp_in_nI h4 (by omega), nm_e ?_⟩⟩
  have hP2 := re_set hP (nI (cl ++ cg_ar L (6 + l)).length)
  have es : vp_nar .short f_codeEnd.toInt16.toInt32 = nI (cl ++ cg_ar L (6 + l)).length := by rw [hC1.2.1]; exact xc_ns (by omega)
  rw [es]
  refine xc_write (k := 11) hC1 (by rw [List.length_append]; omega) (by decide) ?_
  intro f_codeEnd a_operation a_operand hC2
  dsimp only
  refine ⟨vp_in_nI (by omega) (by omega), nm_e ?_⟩
  rw [nI_clamp (by omega)]
  have hq2 : (cl ++ cg_ar L (6 + l) ++ [(nI 11, 0)])[q]? = some (kq, y) := by
    rw [List.append_assoc, List.getElem?_append_left ql]; exact hq
  have hC3 := re_patch hC2 hq2 f_codeEnd
  have ece : f_codeEnd = nI (cl.length + (cg_ar L (6 + l)).length + 1) := by
    rw [hC2.2.1, List.length_append, List.length_append]; rfl
  rw [ece] at hC3 ⊢
  refine K _ _ _ _ _ ?_ hL1 ?_
  · rw [← List.append_assoc]; exact hC3
  · rw [← List.length_append]; exact hP2
theorem xb_11i {q : Nat} {b kq y : Int32} (hn : n ≤ 40) (hX : qs_X Q n a_kind a_first a_second a_third) (hi : i < n) (h11 : qs_K Q i = 11) (hb : b ≠ 10)
    (hol : f_openLoops = nI l) (hl3 : l ≤ 3) (hnd : L.Nodup) (hm : ∀ v, v ∈ L ↔ v < 6 + l) (hL : re_S (L.map nI) f_layoutDepth a_layout) (hC : re_C cl f_codeEnd a_operation a_operand) (hl : cl.length + 13 ≤ 560)
    (hB : re_S (b :: kl) f_openBlocks a_blockKind) (hP : re_S (nI q :: pl) f_openBlocks a_blockPatch) (h4 : kl.length < 4) (hlen : pl.length = kl.length) (hq : cl[q]? = some (kq, y))
    (K : ∀ f_codeEnd a_operation a_operand a_layout f_openBlocks, re_C ((cl ++ cg_ar L (6 + l)).set q (kq, nI (cl.length + (cg_ar L (6 + l)).length))) f_codeEnd a_operation a_operand → re_S ((cg_dd (6 + l) 0).map nI) f_layoutDepth a_layout → re_S kl f_openBlocks a_blockKind → re_S pl f_openBlocks a_blockPatch → post (f_length, f_compiled, f_isSound, f_codeEnd, f_layoutDepth, f_openLoops, f_openBlocks, f_depth, f_printedCount, a_kind, a_first, a_second, a_third, a_variables, a_operation, a_operand, a_layout, a_blockKind, a_blockPatch, a_stack, a_printedValues)) : wpX_compileBoundary post (f_length, f_compiled, f_isSound, f_codeEnd, f_layoutDepth, f_openLoops, f_openBlocks, f_depth, f_printedCount, a_kind, a_first, a_second, a_third, a_variables, a_operation, a_operand, a_layout, a_blockKind, a_blockPatch, a_stack, a_printedValues) (nI i) := by
  have hi40 : vp_in (nI i) 40 := vp_in_nI (by omega) (by omega)
  obtain ⟨x1, x2, x3, x4, x5⟩ := hX i hi
  have al := cg_ar_len L (6 + l)
  have ql := re_lt hq
  unfold wpX_compileBoundary
  dsimp only
  rw [nI_clamp (by omega)]
  refine ⟨hi40, nm_r x1 ?_⟩
  refine xc_arrange hol hl3 hnd hm hL hC (by omega) ?_
  intro f_codeEnd a_operation a_operand a_layout hC1 hL1
  dsimp only
  refine br_f (by rw [h11]; decide) (br_f (by rw [h11]; decide) (br_f (by rw [h11]; decide) ?_))
  obtain ⟨t1, t2, t3, t4⟩ := re_tail hB
  obtain ⟨s1, s2, s3, s4⟩ := re_tail hP
  rw [hlen] at s1 s3
  have hi4 : vp_in (nI kl.length) 4 := vp_in_nI h4 (by omega)
  unfold wpX_closeBlock
  dsimp only
  refine nm_r t2 ?_
  rw [nI_clamp (by omega), s3, t3]
  refine ⟨hi4, nm_e ⟨hi4, br_f hb ⟨vp_in_nI (by have := hC.1; omega) (by omega), nm_e ?_⟩⟩⟩
  have hq2 : (cl ++ cg_ar L (6 + l))[q]? = some (kq, y) := by
    rw [List.getElem?_append_left ql]; exact hq
  have hC3 := re_patch hC1 hq2 f_codeEnd
  have h560 := hC.1
  rw [nI_clamp (by omega)]
  have ece : f_codeEnd = nI (cl.length + (cg_ar L (6 + l)).length) := by
    rw [hC1.2.1, List.length_append]
  rw [ece] at hC3 ⊢
  exact K _ _ _ _ _ hC3 hL1 t1 s1
theorem xb_11l {q : Nat} {kq y : Int32} (hn : n ≤ 40) (hX : qs_X Q n a_kind a_first a_second a_third) (hi : i < n) (h11 : qs_K Q i = 11)
    (hol : f_openLoops = nI (l + 1)) (hl3 : l + 1 ≤ 3) (hnd : L.Nodup) (hm : ∀ v, v ∈ L ↔ v < 6 + (l + 1)) (hL : re_S (L.map nI) f_layoutDepth a_layout) (hC : re_C cl f_codeEnd a_operation a_operand) (hl : cl.length + 13 ≤ 560)
    (hB : re_S (nI 10 :: kl) f_openBlocks a_blockKind) (hP : re_S (nI q :: pl) f_openBlocks a_blockPatch) (h4 : kl.length < 4) (hlen : pl.length = kl.length) (hq : cl[q]? = some (kq, y)) (hq1 : 1 ≤ q)
    (K : ∀ f_codeEnd a_operation a_operand f_layoutDepth a_layout f_openBlocks, re_C ((cl ++ (cg_ar L (6 + (l + 1)) ++ [(0, -1), (2, 0), (11, nI (q - 1)), (8, 0)])).set q (kq, nI (cl.length + (cg_ar L (6 + (l + 1))).length + 3))) f_codeEnd a_operation a_operand → re_S ((cg_dd (6 + l) 0).map nI) f_layoutDepth a_layout → re_S kl f_openBlocks a_blockKind → re_S pl f_openBlocks a_blockPatch → post (f_length, f_compiled, f_isSound, f_codeEnd, f_layoutDepth, nI l, f_openBlocks, f_depth, f_printedCount, a_kind, a_first, a_second, a_third, a_variables, a_operation, a_operand, a_layout, a_blockKind, a_blockPatch, a_stack, a_printedValues)) : wpX_compileBoundary post (f_length, f_compiled, f_isSound, f_codeEnd, f_layoutDepth, f_openLoops, f_openBlocks, f_depth, f_printedCount, a_kind, a_first, a_second, a_third, a_variables, a_operation, a_operand, a_layout, a_blockKind, a_blockPatch, a_stack, a_printedValues) (nI i) := by
  have hi40 : vp_in (nI i) 40 := vp_in_nI (by omega) (by omega)
  obtain ⟨x1, x2, x3, x4, x5⟩ := hX i hi
  have al := cg_ar_len L (6 + (l + 1))
  have ql := re_lt hq
  have h560 := hC.1
  unfold wpX_compileBoundary
  dsimp only
  rw [nI_clamp (by omega)]
  refine ⟨hi40, nm_r x1 ?_⟩
  refine xc_arrange hol hl3 hnd hm hL hC (by omega) ?_
  intro f_codeEnd a_operation a_operand a_layout hC1 hL1
  dsimp only
  refine br_f (by rw [h11]; decide) (br_f (by rw [h11]; decide) (br_f (by rw [h11]; decide) ?_))
  obtain ⟨t1, t2, t3, t4⟩ := re_tail hB
  obtain ⟨s1, s2, s3, s4⟩ := re_tail hP
  rw [hlen] at s1 s3
  have hi4 : vp_in (nI kl.length) 4 := vp_in_nI h4 (by omega)
  unfold wpX_closeBlock
  dsimp only
  refine nm_r t2 ?_
  rw [nI_clamp (by omega), s3, t3]
  refine ⟨hi4, nm_e ⟨hi4, br_t rfl ?_⟩⟩
  generalize hA : cg_ar L (6 + (l + 1)) = ar at *
  refine xc_write (k := 0) hC1 (by rw [List.length_append]; omega) (by decide) ?_
  intro f_codeEnd a_operation a_operand hC2
  dsimp only
  refine xc_write (k := 2) hC2 (by rw [List.length_append, List.length_append]; show _ + _ + 1 < _; omega) (by decide) ?_
  intro f_codeEnd a_operation a_operand hC3
  dsimp only
  have e1 : nI q - 1 = nI (q - 1) := by
    have := nI_pred (q - 1)
    rw [show q - 1 + 1 = q by omega] at this; exact this
  rw [e1]
  refine xc_write (k := 11) hC3 (by rw [List.length_append, List.length_append, List.length_append]; show _ + _ + 1 + 1 < _; omega) (by decide) ?_
  intro f_codeEnd a_operation a_operand hC4
  dsimp only
  refine ⟨vp_in_nI (by omega) (by omega), nm_e ?_⟩
  rw [nI_clamp (by omega)]
  have hq2 : (cl ++ ar ++ [(nI 0, -1)] ++ [(nI 2, 0)] ++ [(nI 11, nI (q - 1))])[q]? = some (kq, y) := by
    rw [List.append_assoc, List.append_assoc, List.append_assoc, List.getElem?_append_left ql]; exact hq
  have hC5 := re_patch hC4 hq2 f_codeEnd
  have ece : f_codeEnd = nI (cl.length + ar.length + 3) := by
    rw [hC4.2.1, List.length_append, List.length_append, List.length_append, List.length_append]; rfl
  have hC5' := hC5
  refine xc_write (k := 8) hC5 (by rw [List.length_set, List.length_append, List.length_append, List.length_append, List.length_append]; show _ + _ + 1 + 1 + 1 < _; omega) (by decide) ?_
  intro f_codeEnd2 a_operation a_operand hC6
  dsimp only
  have eL : cg_dd (6 + (l + 1)) 0 = (6 + l) :: cg_dd (6 + l) 0 := cg_dd_0 (6 + l)
  rw [eL] at hL1
  obtain ⟨u1, u2, u3, u4⟩ := re_tail hL1
  refine nm_r u2 (nm_r (e' := nI l) (by rw [hol]; exact nI_pred l) ?_)
  refine K _ _ _ _ _ _ ?_ u1 t1 s1
  have e : (cl ++ (ar ++ [(0, -1), (2, 0), (11, nI (q - 1)), (8, 0)])).set q (kq, nI (cl.length + ar.length + 3)) = (cl ++ ar ++ [(nI 0, -1)] ++ [(nI 2, 0)] ++ [(nI 11, nI (q - 1))]).set q (kq, f_codeEnd) ++ [(nI 8, 0)] := by
    rw [ece, ← List.set_append_left _ _ (by simp only [List.length_append]; omega)]
    simp only [List.append_assoc]; rfl
  rw [e]; exact hC6
end
end
section
-- what holds before statement i is compiled
def xi_I (Q : qs_T) (n i : Nat) (ce ld ol ob : Int32) (op od ly bk bp : Nat → Int32) : Prop :=
  ∃ cl X, cl.length = cg_ad Q n i ∧ cg_co Q n i cl X ∧ re_C cl ce op od ∧ re_S ((cg_ly Q n i).map nI) ld ly ∧ ol = nI (cg_ls Q i).length ∧ re_S ((sk_st (qs_K Q) i).map (fun e => nI (qs_K Q e.1))) ob bk ∧ re_S ((sk_st (qs_K Q) i).map (fun e => nI (cg_ad Q n (e.2 + 1) - 1))) ob bp
section
variable {f_length f_compiled f_isSound f_codeEnd f_layoutDepth f_openLoops f_openBlocks f_depth f_printedCount : Int32} {a_kind a_first a_second a_third a_variables a_operation a_operand a_layout a_blockKind a_blockPatch a_stack a_printedValues : Nat → Int32}
variable {Q : qs_T} {n i : Nat} {post : SX → Prop}
theorem xi_s (hlen : f_length = nI n) (hn : n ≤ 40) (hq : ∀ i, i < n → qs_ok Q i) (hX : qs_X Q n a_kind a_first a_second a_third) (hi : i < n) (ho : sk_oks (qs_K Q) n) (h7 : qs_K Q i ≤ 7)
    (I : xi_I Q n i f_codeEnd f_layoutDepth f_openLoops f_openBlocks a_operation a_operand a_layout a_blockKind a_blockPatch)
    (K : ∀ f_codeEnd f_layoutDepth a_operation a_operand a_layout, xi_I Q n (i + 1) f_codeEnd f_layoutDepth f_openLoops f_openBlocks a_operation a_operand a_layout a_blockKind a_blockPatch → post (f_length, f_compiled, f_isSound, f_codeEnd, f_layoutDepth, f_openLoops, f_openBlocks, f_depth, f_printedCount, a_kind, a_first, a_second, a_third, a_variables, a_operation, a_operand, a_layout, a_blockKind, a_blockPatch, a_stack, a_printedValues)) : wpX_compileStraight post (f_length, f_compiled, f_isSound, f_codeEnd, f_layoutDepth, f_openLoops, f_openBlocks, f_depth, f_printedCount, a_kind, a_first, a_second, a_third, a_variables, a_operation, a_operand, a_layout, a_blockKind, a_blockPatch, a_stack, a_printedValues) (nI i) := by
  obtain ⟨cl, X, h1, h2, h3, h4, h5, h6, h7'⟩ := I
  have hoi : sk_oks (qs_K Q) i := sk_oks_le ho (by omega)
  have hk := lk_ly (n := n) i (fun j hj => hq j (by omega)) hoi
  have al := cg_ad_le (n := n) i hoi
  refine xt_straight hlen hn hq hX hi h7 hoi hk h4 h3 (by omega) ?_
  intro f_codeEnd a_operation a_operand f_layoutDepth a_layout c1 c2
  refine K _ _ _ _ _ ⟨_, upd X i 0, ?_, co_app h2 h1 0 (by omega), c1, c2, ?_, ?_, ?_⟩
  · rw [List.length_append, h1]; exact (cg_ad_s Q n i 0).symm
  · rw [cg_ls_p h7]; exact h5
  · rw [sk_sn (by omega) (by omega) (by omega)]; exact h6
  · rw [sk_sn (by omega) (by omega) (by omega)]; exact h7'
theorem xi_b (hlen : f_length = nI n) (hn : n ≤ 40) (hq : ∀ i, i < n → qs_ok Q i) (hX : qs_X Q n a_kind a_first a_second a_third) (hi : i < n) (ho : sk_oks (qs_K Q) n) (h8 : 8 ≤ qs_K Q i)
    (I : xi_I Q n i f_codeEnd f_layoutDepth f_openLoops f_openBlocks a_operation a_operand a_layout a_blockKind a_blockPatch)
    (K : ∀ f_codeEnd f_layoutDepth f_openLoops f_openBlocks a_operation a_operand a_layout a_blockKind a_blockPatch, xi_I Q n (i + 1) f_codeEnd f_layoutDepth f_openLoops f_openBlocks a_operation a_operand a_layout a_blockKind a_blockPatch → post (f_length, f_compiled, f_isSound, f_codeEnd, f_layoutDepth, f_openLoops, f_openBlocks, f_depth, f_printedCount, a_kind, a_first, a_second, a_third, a_variables, a_operation, a_operand, a_layout, a_blockKind, a_blockPatch, a_stack, a_printedValues)) : wpX_compileBoundary post (f_length, f_compiled, f_isSound, f_codeEnd, f_layoutDepth, f_openLoops, f_openBlocks, f_depth, f_printedCount, a_kind, a_first, a_second, a_third, a_variables, a_operation, a_operand, a_layout, a_blockKind, a_blockPatch, a_stack, a_printedValues) (nI i) := by
  obtain ⟨cl, X, h1, h2, h3, h4, h5, h6, h7⟩ := I
  have hoi : sk_oks (qs_K Q) i := sk_oks_le ho (by omega)
  have hk := lk_ly (n := n) i (fun j hj => hq j (by omega)) hoi
  have al := cg_ad_le (n := n) i hoi
  have N9 := cg_N_9 hoi
  have hm : ∀ v, v ∈ cg_ly Q n i ↔ v < 6 + (cg_ls Q i).length := lk_full hk (Or.inr h8)
  have hl3 : (cg_ls Q i).length ≤ 3 := by unfold cg_N at N9; omega
  have oki := ho i hi
  have st3 := sk_len3 i hoi
  by_cases k8 : qs_K Q i = 8
  · have st2 := oki.1 (Or.inl k8)
    refine xb_8 hn (hq i hi) hX hi k8 h5 hl3 hk.1 hm h4 h3 (by omega) h6 h7 (by rw [List.length_map]; omega) (by rw [List.length_map, List.length_map]) ?_
    intro f_codeEnd a_operation a_operand a_layout f_openBlocks a_blockKind a_blockPatch c1 c2 c3 c4
    have em : cg_em Q n i (cg_ly Q n i) 0 = cg_ar (cg_ly Q n i) (6 + (cg_ls Q i).length) ++ [(1, nI ((cg_dd (6 + (cg_ls Q i).length) 0).idxOf (qs_A Q i))), (10, 0)] := by
      rw [cg_em_b (by omega), cg_bt_8 k8]; rfl
    rw [← em] at c1
    refine K _ _ _ _ _ _ _ _ _ ⟨_, upd X i 0, ?_, co_app h2 h1 0 (by omega), c1, ?_, ?_, ?_, ?_⟩
    · rw [List.length_append, h1]; exact (cg_ad_s Q n i 0).symm
    · rw [cg_ly_89 (Or.inl k8)]; exact c2
    · rw [cg_ls_8 k8]; exact h5
    · rw [sk_s8 (Or.inl k8), List.map_cons, k8]; exact c3
    · rw [sk_s8 (Or.inl k8), List.map_cons]
      have e : cg_ad Q n (i + 1) - 1 = cl.length + (cg_ar (cg_ly Q n i) (6 + (cg_ls Q i).length)).length + 1 := by
        rw [cg_ad_s Q n i 0, em, List.length_append, h1]; rfl
      dsimp only
      rw [e]; exact c4
  by_cases k10 : qs_K Q i = 10
  · have st2 := oki.1 (Or.inr k10)
    refine xb_10 hn (hq i hi) hX hi k10 h5 hl3 hk.1 hm h4 h3 (by omega) h6 h7 (by rw [List.length_map]; omega) (by rw [List.length_map, List.length_map]) ?_
    intro f_codeEnd a_operation a_operand f_layoutDepth a_layout f_openBlocks a_blockKind a_blockPatch c1 c2 c3 c4
    have em : cg_em Q n i (cg_ly Q n i) 0 = cg_ar (cg_ly Q n i) (6 + (cg_ls Q i).length) ++ [(0, nI (qs_A Q i)), (1, 0), (10, 0)] := by
      rw [cg_em_b (by omega), cg_bt_10 k10]; rfl
    rw [← em] at c1
    refine K _ _ _ _ _ _ _ _ _ ⟨_, upd X i 0, ?_, co_app h2 h1 0 (by omega), c1, ?_, ?_, ?_, ?_⟩
    · rw [List.length_append, h1]; exact (cg_ad_s Q n i 0).symm
    · rw [cg_ly_10 k10]; exact c2
    · rw [cg_ls_10 k10]; rfl
    · rw [sk_s8 (Or.inr k10), List.map_cons, k10]; exact c3
    · rw [sk_s8 (Or.inr k10), List.map_cons]
      have e : cg_ad Q n (i + 1) - 1 = cl.length + (cg_ar (cg_ly Q n i) (6 + (cg_ls Q i).length)).length + 1 + 1 := by
        rw [cg_ad_s Q n i 0, em, List.length_append, h1]; rfl
      dsimp only
      rw [e]; exact c4
  by_cases k9 : qs_K Q i = 9
  · obtain ⟨o, r, hst, ho8⟩ := oki.2.1 k9
    obtain ⟨kq, hat, ha1⟩ := co_at h2 hoi hst
    have hP := h7
    rw [hst, List.map_cons] at hP
    rw [hst, List.length_cons] at st3
    refine xb_9 (b := 0) hn hX hi k9 h5 hl3 hk.1 hm h4 h3 (by omega) hP (by rw [List.length_map]; omega) hat ?_
    intro f_codeEnd a_operation a_operand a_layout a_blockPatch c1 c2 c4
    have em : cg_em Q n i (cg_ly Q n i) 0 = cg_ar (cg_ly Q n i) (6 + (cg_ls Q i).length) ++ [(11, 0)] := by
      rw [cg_em_b (by omega), cg_bt_9 k9]; rfl
    have e : cg_ad Q n (i + 1) = cl.length + (cg_ar (cg_ly Q n i) (6 + (cg_ls Q i).length)).length + 1 := by
      rw [cg_ad_s Q n i 0, em, List.length_append, h1]; rfl
    have tg : cg_tg Q n o i = nI (cl.length + (cg_ar (cg_ly Q n i) (6 + (cg_ls Q i).length)).length + 1) := by
      unfold cg_tg; rw [if_neg (by omega), e]
    rw [← em, ← tg] at c1
    refine K _ _ _ _ _ _ _ _ _ ⟨_, _, ?_, co_patch (x := 0) h2 hoi h1 (Or.inl k9) hst hat (fun z => by omega), c1, ?_, ?_, ?_, ?_⟩
    · rw [List.length_set, List.length_append, h1]; exact (cg_ad_s Q n i 0).symm
    · rw [cg_ly_89 (Or.inr k9)]; exact c2
    · rw [cg_ls_9 k9]; exact h5
    · rw [sk_s9 k9, hst]; rw [hst] at h6; exact h6
    · rw [sk_s9 k9, hst]
      show re_S (nI (cg_ad Q n (i + 1) - 1) :: _) _ _
      rw [e]; exact c4
  · have k11 : qs_K Q i = 11 := by have := (hq i hi).1; omega
    obtain ⟨o, p, r, hst⟩ := oki.2.2 k11
    obtain ⟨kq, hat, ha1⟩ := co_at h2 hoi hst
    have T := sk_inv i hoi o p r hst
    have hP := h7
    have hB := h6
    rw [hst, List.map_cons] at hP hB
    rw [hst, List.length_cons] at st3
    rcases T.2.1 with o8 | o10
    · have p8 : ¬ qs_K Q p = 10 := by
        rcases T.2.2.2.2 with h | h
        · rw [h.1]; omega
        · omega
      dsimp only at hB
      refine xb_11i hn hX hi k11 (by rw [o8]; decide) h5 hl3 hk.1 hm h4 h3 (by omega) hB hP (by rw [List.length_map]; omega) (by rw [List.length_map, List.length_map]) hat ?_
      intro f_codeEnd a_operation a_operand a_layout f_openBlocks c1 c2 c3 c4
      have em : cg_em Q n i (cg_ly Q n i) 0 = cg_ar (cg_ly Q n i) (6 + (cg_ls Q i).length) := by
        rw [cg_em_b (by omega), cg_bt_11i k11 hst o8, List.append_nil]; rfl
      have e : cg_ad Q n (i + 1) = cl.length + (cg_ar (cg_ly Q n i) (6 + (cg_ls Q i).length)).length := by
        rw [cg_ad_s Q n i 0, em, h1]
      have tg : cg_tg Q n p i = nI (cl.length + (cg_ar (cg_ly Q n i) (6 + (cg_ls Q i).length)).length) := by
        unfold cg_tg; rw [if_neg p8, e]
      rw [← tg, ← em] at c1
      refine K _ _ _ _ _ _ _ _ _ ⟨_, _, ?_, co_patch (x := 0) h2 hoi h1 (Or.inr k11) hst hat (fun _ z => by omega), c1, ?_, ?_, ?_, ?_⟩
      · rw [List.length_set, List.length_append, h1]; exact (cg_ad_s Q n i 0).symm
      · rw [cg_ly_11i k11 hst o8]; exact c2
      · rw [cg_ls_11 k11 hst, ← cg_ls_cons8 hst o8]; exact h5
      · rw [sk_s11 k11, hst]; exact c3
      · rw [sk_s11 k11, hst]; exact c4
    · have pq : p = o := by
        rcases T.2.2.2.2 with h | h
        · exact h.1
        · omega
      subst pq
      have els := cg_ls_cons hst o10
      have eln : (cg_ls Q i).length = (cg_lo (qs_K Q) r).length + 1 := by rw [els]; rfl
      rw [eln] at h5 hl3 hm
      dsimp only at hB hP
      rw [o10] at hB
      have ha2 : 2 ≤ cg_ad Q n (p + 1) := by
        rw [cg_ad_s Q n p 0, cg_em_b (by omega), cg_bt_10 o10, List.length_append]
        simp only [List.length_cons, List.length_nil]; omega
      refine xb_11l hn hX hi k11 h5 hl3 hk.1 hm h4 h3 (by omega) hB hP (by rw [List.length_map]; omega) (by rw [List.length_map, List.length_map]) hat (by omega) ?_
      intro f_codeEnd a_operation a_operand f_layoutDepth a_layout f_openBlocks c1 c2 c3 c4
      have em : cg_em Q n i (cg_ly Q n i) (nI (cg_ad Q n (p + 1) - 1 - 1)) = cg_ar (cg_ly Q n i) (6 + ((cg_lo (qs_K Q) r).length + 1)) ++ [(0, -1), (2, 0), (11, nI (cg_ad Q n (p + 1) - 1 - 1)), (8, 0)] := by
        rw [cg_em_b (by omega), cg_bt_11l k11 hst o10]; unfold cg_N; rw [eln]
      have e : cg_ad Q n (i + 1) - 1 = cl.length + (cg_ar (cg_ly Q n i) (6 + ((cg_lo (qs_K Q) r).length + 1))).length + 3 := by
        rw [cg_ad_s Q n i (nI (cg_ad Q n (p + 1) - 1 - 1)), em, List.length_append, h1]; rfl
      have tg : cg_tg Q n p i = nI (cl.length + (cg_ar (cg_ly Q n i) (6 + ((cg_lo (qs_K Q) r).length + 1))).length + 3) := by
        unfold cg_tg; rw [if_pos o10, e]
      rw [← tg, ← em] at c1
      refine K _ _ _ _ _ _ _ _ _ ⟨_, _, ?_, co_patch h2 hoi h1 (Or.inr k11) hst hat (fun _ _ => by congr 1), c1, ?_, ?_, ?_, ?_⟩
      · rw [List.length_set, List.length_append, h1]; exact (cg_ad_s Q n i _).symm
      · rw [cg_ly_11l k11 hst o10]
        have eN : cg_N Q i - 1 = 6 + (cg_lo (qs_K Q) r).length := by unfold cg_N; rw [eln]; omega
        rw [eN]; exact c2
      · rw [cg_ls_11 k11 hst]
      · rw [sk_s11 k11, hst]; exact c3
      · rw [sk_s11 k11, hst]; exact c4
theorem xi_70 (hlen : f_length = nI n) (hn : n ≤ 40) (hq : ∀ i, i < n → qs_ok Q i) (hX : qs_X Q n a_kind a_first a_second a_third) (hs : sk_snd (qs_K Q) n)
    (K : ∀ cl f_codeEnd f_layoutDepth f_openLoops f_openBlocks a_operation a_operand a_layout a_blockKind a_blockPatch, re_C cl f_codeEnd a_operation a_operand → cg_code Q n cl → post (f_length, f_compiled, f_isSound, f_codeEnd, f_layoutDepth, f_openLoops, f_openBlocks, f_depth, f_printedCount, a_kind, a_first, a_second, a_third, a_variables, a_operation, a_operand, a_layout, a_blockKind, a_blockPatch, a_stack, a_printedValues)) :
    ∀ k i f_codeEnd f_layoutDepth f_openLoops f_openBlocks a_operation a_operand a_layout a_blockKind a_blockPatch, i + k = n → xi_I Q n i f_codeEnd f_layoutDepth f_openLoops f_openBlocks a_operation a_operand a_layout a_blockKind a_blockPatch → ∀ m, k < m → wX_compile_70 post m (nI i) f_length f_compiled f_isSound f_codeEnd f_layoutDepth f_openLoops f_openBlocks f_depth f_printedCount a_kind a_first a_second a_third a_variables a_operation a_operand a_layout a_blockKind a_blockPatch a_stack a_printedValues := by
  intro k
  induction k with
  | zero =>
    intro i f_codeEnd f_layoutDepth f_openLoops f_openBlocks a_operation a_operand a_layout a_blockKind a_blockPatch hik I m hm
    obtain ⟨m, rfl⟩ : ∃ m', m = m' + 1 := ⟨m - 1, by omega⟩
    have e : i = n := by omega
    subst e
    obtain ⟨cl, X, h1, h2, h3, h4, h5, h6, h7⟩ := I
    have lsn : cg_ls Q i = [] := by unfold cg_ls; rw [hs.2]; rfl
    have hk := lk_ly (n := i) i (fun j hj => hq j (by omega)) hs.1
    have al := cg_ad_le (n := i) i hs.1
    have hm : ∀ v, v ∈ cg_ly Q i i ↔ v < 6 + 0 := fun v => by
      have := lk_full hk (Or.inl (Nat.le_refl i)) v
      unfold cg_N at this; rw [lsn] at this; exact this
    rw [lsn] at h5
    refine br_t (by rw [hlen]; exact nI_le (Nat.le_refl _) (by omega)) ?_
    refine xc_arrange (l := 0) h5 (by omega) hk.1 hm h4 h3 (by omega) ?_
    intro f_codeEnd a_operation a_operand a_layout c1 c2
    dsimp only
    refine K _ _ _ _ _ _ _ _ _ _ c1 ⟨?_, ?_, X, ?_, h2.2.1, h2.2.2⟩
    · rw [List.length_append, h1]
    · rw [← h1]; exact sg_new _ _
    · intro j hj; exact sg_old _ (h2.1 j hj)
  | succ k ih =>
    intro i f_codeEnd f_layoutDepth f_openLoops f_openBlocks a_operation a_operand a_layout a_blockKind a_blockPatch hik I m hm
    obtain ⟨m, rfl⟩ : ∃ m', m = m' + 1 := ⟨m - 1, by omega⟩
    refine br_f (by rw [hlen]; exact nI_ge (by omega) (by omega)) ?_
    refine xs_isB hlen hn hq hX (by omega) (fun h => ?_) (fun h1 h7 => ?_)
    · refine br_f (by decide) ?_
      refine xi_b hlen hn hq hX (by omega) hs.1 (by omega) I ?_
      intro f_codeEnd f_layoutDepth f_openLoops f_openBlocks a_operation a_operand a_layout a_blockKind a_blockPatch I'
      dsimp only
      exact nm_r (nI_1 _) (ih (i + 1) _ _ _ _ _ _ _ _ _ (by omega) I' m (by omega))
    · refine br_t rfl ?_
      refine xi_s hlen hn hq hX (by omega) hs.1 h7 I ?_
      intro f_codeEnd f_layoutDepth a_operation a_operand a_layout I'
      dsimp only
      exact nm_r (nI_1 _) (ih (i + 1) _ _ _ _ _ _ _ _ _ (by omega) I' m (by omega))
theorem xi_51 (K : ∀ f_layoutDepth a_layout, re_S ((cg_dd 6 0).map nI) f_layoutDepth a_layout → ∃ m, wX_compile_70 post m 0 f_length f_compiled f_isSound f_codeEnd f_layoutDepth f_openLoops f_openBlocks f_depth f_printedCount a_kind a_first a_second a_third a_variables a_operation a_operand a_layout a_blockKind a_blockPatch a_stack a_printedValues) : ∀ k j f_layoutDepth a_layout, j + k = 6 → re_S ((cg_dd j 0).map nI) f_layoutDepth a_layout → ∀ m, k < m → wX_compile_51 post m (nI j) f_length f_compiled f_isSound f_codeEnd f_layoutDepth f_openLoops f_openBlocks f_depth f_printedCount a_kind a_first a_second a_third a_variables a_operation a_operand a_layout a_blockKind a_blockPatch a_stack a_printedValues := by
  intro k
  induction k with
  | zero =>
    intro j f_layoutDepth a_layout hj h m hm
    obtain ⟨m, rfl⟩ : ∃ m', m = m' + 1 := ⟨m - 1, by omega⟩
    have e : j = 6 := by omega
    subst e
    exact br_t (by decide) (K _ _ h)
  | succ k ih =>
    intro j f_layoutDepth a_layout hj h m hm
    obtain ⟨m, rfl⟩ : ∃ m', m = m' + 1 := ⟨m - 1, by omega⟩
    refine br_f (nI_ge (b := 6) (by omega) (by decide)) ?_
    refine xc_push h (by rw [cg_dd_len]; omega) (by omega) ?_
    intro f_layoutDepth a_layout h'
    dsimp only
    refine nm_r (nI_1 _) (ih (j + 1) _ _ (by omega) ?_ m (by omega))
    rw [cg_dd_0]; exact h'
-- soundness
def xi_bk (Q : qs_T) (e : Nat × Nat) : Int32 := if e.2 = e.1 then nI (qs_K Q e.1) else 9
theorem xi_fit4 {post : Int32 → SX → Prop} (hlen : f_length = nI n) (hn : n ≤ 40) (hq : ∀ i, i < n → qs_ok Q i) (hX : qs_X Q n a_kind a_first a_second a_third)
    (K1 : sk_snd (qs_K Q) n → ∀ a_blockKind, post 1 (f_length, f_compiled, f_isSound, f_codeEnd, f_layoutDepth, f_openLoops, f_openBlocks, f_depth, f_printedCount, a_kind, a_first, a_second, a_third, a_variables, a_operation, a_operand, a_layout, a_blockKind, a_blockPatch, a_stack, a_printedValues)) (K0 : ¬ sk_snd (qs_K Q) n → ∀ a_blockKind, post 0 (f_length, f_compiled, f_isSound, f_codeEnd, f_layoutDepth, f_openLoops, f_openBlocks, f_depth, f_printedCount, a_kind, a_first, a_second, a_third, a_variables, a_operation, a_operand, a_layout, a_blockKind, a_blockPatch, a_stack, a_printedValues)) :
    ∀ k i a_blockKind, i + k = n → sk_oks (qs_K Q) i → (∃ d, re_S ((sk_st (qs_K Q) i).map (xi_bk Q)) d a_blockKind) → ∀ m, k < m → wX_blocksFit_4 post f_length f_compiled f_isSound f_codeEnd f_layoutDepth f_openLoops f_openBlocks f_depth f_printedCount m (nI (sk_st (qs_K Q) i).length) (nI i) a_kind a_first a_second a_third a_variables a_operation a_operand a_layout a_blockKind a_blockPatch a_stack a_printedValues := by
  subst hlen
  intro k
  induction k with
  | zero =>
    intro i a_blockKind hi ho ⟨d, hB⟩ m hm
    obtain ⟨m, rfl⟩ : ∃ m', m = m' + 1 := ⟨m - 1, by omega⟩
    have e : i = n := by omega
    subst e
    have st3 := sk_len3 i ho
    refine br_t (nI_le (Nat.le_refl _) (by omega)) ?_
    by_cases c : sk_st (qs_K Q) i = []
    · exact br_t (by rw [c]; rfl) (K1 ⟨ho, c⟩ _)
    · refine br_f (nI_ne0 ?_ (by omega)) (K0 (fun z => c z.2) _)
      exact List.length_pos_iff.mpr c
  | succ k ih =>
    intro i a_blockKind hi ho ⟨d, hB⟩ m hm
    obtain ⟨m, rfl⟩ : ∃ m', m = m' + 1 := ⟨m - 1, by omega⟩
    have hin : i < n := by omega
    have st3 := sk_len3 i ho
    have k11 := (hq i hin).1
    have bad : ¬ sk_ok (qs_K Q) i → ¬ sk_snd (qs_K Q) n := fun h z => h (z.1 i hin)
    unfold wX_blocksFit_4
    rw [nI_clamp (by omega), (hX i hin).1]
    refine br_f (nI_ge (by omega) (by omega)) ⟨vp_in_nI (by omega) (by omega), nm_e ?_⟩
    have hopen : (qs_K Q i = 8 ∨ qs_K Q i = 10) → wX_blocksFit_31 post (wX_blocksFit_4 post (nI n) f_compiled f_isSound f_codeEnd f_layoutDepth f_openLoops f_openBlocks f_depth f_printedCount m) (nI (sk_st (qs_K Q) i).length) (nI i) (nI (qs_K Q i)) (nI n) f_compiled f_isSound f_codeEnd f_layoutDepth f_openLoops f_openBlocks f_depth f_printedCount a_kind a_first a_second a_third a_variables a_operation a_operand a_layout a_blockKind a_blockPatch a_stack a_printedValues := by
      intro h8
      unfold wX_blocksFit_31
      by_cases c : (sk_st (qs_K Q) i).length = 3
      · refine br_t (by rw [c]; rfl) (K0 (bad (fun z => ?_)) _)
        have := z.1 h8; omega
      · refine br_f (fun z => c ((nI_eq (b := 3) (by omega) (by omega)).mp z)) ⟨vp_in_nI (by omega) (by omega), nm_e (nm_r (nI_1 _) (nm_r (nI_1 _) ?_))⟩
        have ok : sk_ok (qs_K Q) i := ⟨fun _ => by omega, fun z => by omega, fun z => by omega⟩
        have I := ih (i + 1) (upd a_blockKind (sk_st (qs_K Q) i).length (nI (qs_K Q i))) (by omega) (sk_oks_s ho ok) (by
          rw [sk_s8 h8, List.map_cons]
          have := re_push hB (by rw [List.length_map]; omega) (nI (qs_K Q i))
          rw [List.length_map] at this
          have e : xi_bk Q (i, i) = nI (qs_K Q i) := by unfold xi_bk; rw [if_pos rfl]
          rw [e]
          exact ⟨_, this⟩) m (by omega)
        rw [sk_s8 h8, List.length_cons] at I
        rw [xc_nb (by omega), nI_clamp (by omega)]
        exact I
    by_cases k8 : qs_K Q i = 8
    · exact br_t (by rw [k8]; rfl) (hopen (Or.inl k8))
    · refine br_f (fun z => k8 ((nI_eq (b := 8) (by omega) (by omega)).mp z)) ?_
      by_cases k10 : qs_K Q i = 10
      · exact br_t (by rw [k10]; rfl) (hopen (Or.inr k10))
      · refine br_f (fun z => k10 ((nI_eq (b := 10) (by omega) (by omega)).mp z)) ?_
        by_cases k9 : qs_K Q i = 9
        · refine br_t (by rw [k9]; rfl) ?_
          cases hst : sk_st (qs_K Q) i with
          | nil =>
            refine br_t rfl (K0 (bad (fun z => ?_)) _)
            obtain ⟨o, r, h1, _⟩ := z.2.1 k9
            rw [hst] at h1; exact absurd h1 (by simp)
          | cons e r =>
            rw [hst] at hB st3
            rw [List.map_cons] at hB
            rw [List.length_cons] at st3
            obtain ⟨t1, t2, t3, t4⟩ := re_tail hB
            rw [List.length_map] at t1 t2 t3 t4
            refine br_f (nI_ne0 (by simp) (by rw [List.length_cons]; omega)) ?_
            rw [List.length_cons, nI_pred, nI_clamp (by omega), t3]
            refine ⟨vp_in_nI (by omega) (by omega), ?_⟩
            have ek := rm_opn i ho e (by rw [hst]; exact List.mem_cons_self)
            by_cases c8 : qs_K Q e.1 = 8 ∧ e.2 = e.1
            · refine br_t (by unfold xi_bk; rw [if_pos c8.2, c8.1]; rfl) ⟨vp_in_nI (by omega) (by omega), nm_e (nm_r (nI_1 _) ?_)⟩
              have hee : e = (e.1, e.1) := by
                have h2 := c8.2
                cases e with
                | mk a b => simp only at h2 ⊢; rw [h2]
              have ok : sk_ok (qs_K Q) i := ⟨fun z => by omega, fun z => ⟨e.1, r, by rw [hst, ← hee], c8.1⟩, fun z => by omega⟩
              have I := ih (i + 1) (upd a_blockKind r.length 9) (by omega) (sk_oks_s ho ok) (by
                rw [sk_s9 k9, hst]
                have := re_set hB 9
                rw [List.length_map] at this
                have e2 : xi_bk Q (e.1, i) = 9 := by unfold xi_bk; rw [if_neg (by show ¬ i = e.1; omega)]
                show ∃ d, re_S (xi_bk Q (e.1, i) :: r.map (xi_bk Q)) d _
                rw [e2]
                exact ⟨_, this⟩) m (by omega)
              rw [sk_s9 k9, hst] at I
              rw [show vp_nar .byte 9 = 9 from xc_nb1 (v := 9) (by decide)]
              exact I
            · refine br_f ?_ (K0 (bad (fun z => ?_)) _)
              · unfold xi_bk
                by_cases ce : e.2 = e.1
                · rw [if_pos ce]
                  intro z
                  have := (nI_eq (b := 8) (by omega) (by omega)).mp z
                  exact c8 ⟨this, ce⟩
                · rw [if_neg ce]; decide
              · obtain ⟨o, r', h1, h2⟩ := z.2.1 k9
                rw [hst] at h1
                injection h1 with h3
                subst h3
                exact c8 ⟨h2, rfl⟩
        · refine br_f (fun z => k9 ((nI_eq (b := 9) (by omega) (by omega)).mp z)) ?_
          by_cases ke : qs_K Q i = 11
          · refine br_t (by rw [ke]; rfl) ?_
            cases hst : sk_st (qs_K Q) i with
            | nil =>
              refine br_t rfl (K0 (bad (fun z => ?_)) _)
              obtain ⟨o, p, r, h1⟩ := z.2.2 ke
              rw [hst] at h1; exact absurd h1 (by simp)
            | cons e r =>
              rw [hst] at hB st3
              rw [List.map_cons] at hB
              rw [List.length_cons] at st3
              obtain ⟨t1, t2, t3, t4⟩ := re_tail hB
              refine br_f (nI_ne0 (by simp) (by rw [List.length_cons]; omega)) ?_
              rw [List.length_cons]
              refine nm_r (pk_m1 _) (nm_r (nI_1 _) ?_)
              have ok : sk_ok (qs_K Q) i := ⟨fun z => by omega, fun z => by omega, fun _ => ⟨e.1, e.2, r, hst⟩⟩
              have I := ih (i + 1) a_blockKind (by omega) (sk_oks_s ho ok) (by
                rw [sk_s11 ke, hst]
                exact ⟨_, t1⟩) m (by omega)
              rw [sk_s11 ke, hst] at I
              exact I
          · refine br_f (fun z => ke ((nI_eq (b := 11) (by omega) (by omega)).mp z)) (nm_r (nI_1 _) ?_)
            have ok : sk_ok (qs_K Q) i := ⟨fun z => by omega, fun z => by omega, fun z => by omega⟩
            have es := sk_sn (K := qs_K Q) (i := i) (by omega) k9 ke
            have I := ih (i + 1) a_blockKind (by omega) (sk_oks_s ho ok) (by rw [es]; exact ⟨_, hB⟩) m (by omega)
            rw [es] at I
            exact I
theorem xi_fit {post : Int32 → SX → Prop} (hlen : f_length = nI n) (hn : n ≤ 40) (hq : ∀ i, i < n → qs_ok Q i) (hX : qs_X Q n a_kind a_first a_second a_third)
    (K1 : sk_snd (qs_K Q) n → ∀ a_blockKind, post 1 (f_length, f_compiled, f_isSound, f_codeEnd, f_layoutDepth, f_openLoops, f_openBlocks, f_depth, f_printedCount, a_kind, a_first, a_second, a_third, a_variables, a_operation, a_operand, a_layout, a_blockKind, a_blockPatch, a_stack, a_printedValues)) (K0 : ¬ sk_snd (qs_K Q) n → ∀ a_blockKind, post 0 (f_length, f_compiled, f_isSound, f_codeEnd, f_layoutDepth, f_openLoops, f_openBlocks, f_depth, f_printedCount, a_kind, a_first, a_second, a_third, a_variables, a_operation, a_operand, a_layout, a_blockKind, a_blockPatch, a_stack, a_printedValues)) : wpX_blocksFit post (f_length, f_compiled, f_isSound, f_codeEnd, f_layoutDepth, f_openLoops, f_openBlocks, f_depth, f_printedCount, a_kind, a_first, a_second, a_third, a_variables, a_operation, a_operand, a_layout, a_blockKind, a_blockPatch, a_stack, a_printedValues) :=
  ⟨n + 1, xi_fit4 hlen hn hq hX K1 K0 n 0 a_blockKind (by omega) (fun j hj => by omega) ⟨0, by simp [re_S, sk_st]; rfl⟩ _ (by omega)⟩
theorem xi_compile (hlen : f_length = nI n) (hn : n ≤ 40) (hq : ∀ i, i < n → qs_ok Q i) (hX : qs_X Q n a_kind a_first a_second a_third) (hc : f_compiled = 0)
    (K0 : ¬ sk_snd (qs_K Q) n → ∀ a_blockKind, post (f_length, 1, 0, f_codeEnd, f_layoutDepth, f_openLoops, f_openBlocks, f_depth, f_printedCount, a_kind, a_first, a_second, a_third, a_variables, a_operation, a_operand, a_layout, a_blockKind, a_blockPatch, a_stack, a_printedValues))
    (K1 : sk_snd (qs_K Q) n → ∀ cl f_codeEnd f_layoutDepth f_openLoops f_openBlocks a_operation a_operand a_layout a_blockKind a_blockPatch, re_C cl f_codeEnd a_operation a_operand → cg_code Q n cl → post (f_length, 1, 1, f_codeEnd, f_layoutDepth, f_openLoops, f_openBlocks, f_depth, f_printedCount, a_kind, a_first, a_second, a_third, a_variables, a_operation, a_operand, a_layout, a_blockKind, a_blockPatch, a_stack, a_printedValues)) : wpX_compile post (f_length, f_compiled, f_isSound, f_codeEnd, f_layoutDepth, f_openLoops, f_openBlocks, f_depth, f_printedCount, a_kind, a_first, a_second, a_third, a_variables, a_operation, a_operand, a_layout, a_blockKind, a_blockPatch, a_stack, a_printedValues) := by
  unfold wpX_compile
  dsimp only
  refine br_t hc ?_
  refine xi_fit hlen hn hq hX (fun hs a_blockKind => ?_) (fun hs a_blockKind => ?_)
  · dsimp only
    refine ⟨rfl, rfl, br_f (by decide) ⟨7, ?_⟩⟩
    refine xi_51 (fun f_layoutDepth a_layout hL => ⟨n + 1, ?_⟩) 6 0 0 a_layout (by omega) (by refine ⟨by simp [cg_dd], rfl, ?_⟩; intro t x hx; simp [cg_dd] at hx) 7 (by omega)
    refine xi_70 hlen hn hq hX hs (K1 hs) n 0 _ _ _ _ _ _ _ _ _ (by omega) ?_ _ (by omega)
    refine ⟨[], fun _ => 0, rfl, ⟨fun j hj => by omega, fun j m hm => by omega, fun m q p r hm => by omega⟩, ⟨by simp, rfl, fun t x hx => by simp at hx⟩, hL, rfl, ⟨by simp [sk_st], rfl, fun t x hx => by simp [sk_st] at hx⟩, ⟨by simp [sk_st], rfl, fun t x hx => by simp [sk_st] at hx⟩⟩
  · dsimp only
    exact ⟨rfl, rfl, br_t rfl (K0 hs _)⟩
end
end
section
-- the source in Y's arrays
def qs_Y (Q : qs_T) (n : Nat) (ki aa bb cc : Nat → Int32) : Prop :=
  ∀ j, j < n → ki j = nI (qs_K Q j) ∧ (qs_K Q j ≠ 9 → qs_K Q j ≠ 11 → aa j = nI (qs_A Q j)) ∧ (qs_K Q j = 0 → bb j = qs_V Q j) ∧ (1 ≤ qs_K Q j → qs_K Q j ≤ 6 → bb j = nI (qs_B Q j)) ∧ (2 ≤ qs_K Q j → qs_K Q j ≤ 6 → cc j = nI (qs_C Q j))
section
variable {g_n g_pr : Int32} {b_kind b_a b_b b_c b_var b_out b_left : Nat → Int32}
variable {Q : qs_T} {n i j : Nat} {post : Int32 → Prop}
theorem yo_m1 (x : Int32) : x + (-1) = x - 1 := (Int32.sub_eq_add_neg x 1).symm
theorem yo_ne {x k : Nat} (hx : x ≤ 11) (hk : k < 2 ^ 31) (h : ¬ x = k) : ¬ nI x = nI k := fun z => h ((nI_eq (by omega) hk).mp z)
theorem yo_opens (hn : n ≤ 40) (hq : ∀ i, i < n → qs_ok Q i) (hY : qs_Y Q n b_kind b_a b_b b_c) (hj : j < n) (K1 : qs_K Q j = 8 ∨ qs_K Q j = 10 → post 1) (K0 : ¬ (qs_K Q j = 8 ∨ qs_K Q j = 10) → post 0) : wpY_opens post (g_n, g_pr, b_kind, b_a, b_b, b_c, b_var, b_out, b_left) (nI j) := by
  have hi : vp_in (nI j) 40 := vp_in_nI (by omega) (by omega)
  have k11 := (hq j hj).1
  unfold wpY_opens
  dsimp only
  rw [nI_clamp (by omega), (hY j hj).1]
  refine ⟨hi, ?_⟩
  by_cases k8 : qs_K Q j = 8
  · exact br_t (by rw [k8]; rfl) (K1 (Or.inl k8))
  · refine br_f (yo_ne (k := 8) k11 (by omega) k8) ⟨hi, ?_⟩
    by_cases k10 : qs_K Q j = 10
    · exact br_t (by rw [k10]; rfl) (K1 (Or.inr k10))
    · exact br_f (yo_ne (k := 10) k11 (by omega) k10) (K0 (by omega))
-- how the stack's length goes
theorem yo_len (h : sk_ok (qs_K Q) j) : (sk_st (qs_K Q) (j + 1)).length + (if qs_K Q j = 11 then 1 else 0) = (sk_st (qs_K Q) j).length + (if qs_K Q j = 8 ∨ qs_K Q j = 10 then 1 else 0) := by
  by_cases k8 : qs_K Q j = 8 ∨ qs_K Q j = 10
  · rw [sk_s8 k8, if_pos k8, if_neg (by omega)]; simp
  · rw [if_neg k8]
    by_cases k9 : qs_K Q j = 9
    · obtain ⟨o, r, h1, _⟩ := h.2.1 k9
      rw [sk_s9 k9, if_neg (by omega), h1]; simp [sk_el]
    · by_cases k11 : qs_K Q j = 11
      · obtain ⟨o, p, r, h1⟩ := h.2.2 k11
        rw [sk_s11 k11, if_pos k11, h1]; simp
      · rw [sk_sn k8 k9 k11, if_neg k11]
theorem yo_step (hn : n ≤ 40) (hq : ∀ i, i < n → qs_ok Q i) (hY : qs_Y Q n b_kind b_a b_b b_c) (hj : j < n) (hok : sk_ok (qs_K Q) j) {w w' m : Nat} (hw : w ≤ 100) (e : w + (sk_st (qs_K Q) j).length = w' + (sk_st (qs_K Q) (j + 1)).length)
    (K1 : w' = 0 → post (nI j)) (K0 : w' ≠ 0 → wY_openerOf_6 post g_n g_pr b_kind b_a b_b b_c b_var b_out b_left m (nI w') (nI j + (-1))) : wY_openerOf_6 post g_n g_pr b_kind b_a b_b b_c b_var b_out b_left (m + 1) (nI w) (nI j) := by
  have k11 := (hq j hj).1
  have L := yo_len hok
  have hw' : w' ≤ 101 := by
    by_cases c : qs_K Q j = 11
    · rw [if_pos c, if_neg (by omega)] at L; omega
    · rw [if_neg c] at L
      by_cases c2 : qs_K Q j = 8 ∨ qs_K Q j = 10
      · rw [if_pos c2] at L; omega
      · rw [if_neg c2] at L; omega
  have fin : wY_openerOf_35 post (wY_openerOf_6 post g_n g_pr b_kind b_a b_b b_c b_var b_out b_left m) (nI w') (nI j) g_n g_pr b_kind b_a b_b b_c b_var b_out b_left := by
    unfold wY_openerOf_35
    by_cases c : w' = 0
    · exact br_t (by rw [c]; rfl) (K1 c)
    · exact br_f (nI_ne0 (by omega) (by omega)) (nm_e (K0 c))
  unfold wY_openerOf_6
  refine br_f (nI_pos (by omega)) ⟨vp_in_nI (by omega) (by omega), ?_⟩
  rw [nI_clamp (by omega), (hY j hj).1]
  by_cases c : qs_K Q j = 11
  · rw [if_pos c, if_neg (by omega)] at L
    refine br_t (by rw [c]; rfl) (nm_r (nI_1 _) ?_)
    unfold wY_openerOf_24
    refine yo_opens hn hq hY hj (fun z => by omega) (fun _ => br_t rfl ?_)
    rw [show w + 1 = w' by omega]; exact fin
  · rw [if_neg c] at L
    refine br_f (yo_ne (k := 11) k11 (by omega) c) ?_
    unfold wY_openerOf_24
    refine yo_opens hn hq hY hj (fun h8 => br_f (by decide) ?_) (fun h8 => br_t rfl ?_)
    · rw [if_pos h8] at L
      rw [show w = w' + 1 by omega]
      exact nm_r (pk_m1 _) fin
    · rw [if_neg h8] at L
      rw [show w = w' by omega]; exact fin
theorem yo_none (hn : n ≤ 40) (hq : ∀ i, i < n → qs_ok Q i) (hY : qs_Y Q n b_kind b_a b_b b_c) (K : post (-1)) : ∀ k, k ≤ n → sk_oks (qs_K Q) k → ∀ m, k < m → wY_openerOf_6 post g_n g_pr b_kind b_a b_b b_c b_var b_out b_left m (nI ((sk_st (qs_K Q) k).length + 1)) (nI k - 1) := by
  intro k
  induction k with
  | zero =>
    intro _ _ m hm
    obtain ⟨m, rfl⟩ : ∃ m', m = m' + 1 := ⟨m - 1, by omega⟩
    exact br_t (by decide) K
  | succ k ih =>
    intro hk ho m hm
    obtain ⟨m, rfl⟩ : ∃ m', m = m' + 1 := ⟨m - 1, by omega⟩
    have l3 := sk_len3 _ ho
    rw [nI_pred]
    refine yo_step (w' := (sk_st (qs_K Q) k).length + 1) hn hq hY (by omega) (ho k (by omega)) (by omega) (by omega) (fun z => by omega) (fun _ => ?_)
    rw [yo_m1]
    exact ih (by omega) (sk_oks_le ho (by omega)) m (by omega)
theorem yo_some (hn : n ≤ 40) (hq : ∀ i, i < n → qs_ok Q i) (hY : qs_Y Q n b_kind b_a b_b b_c) {o b : Nat} (K : post (nI o)) (hb : (sk_st (qs_K Q) o).length = b) : ∀ d k, k = o + 1 + d → k ≤ n → sk_oks (qs_K Q) k → (∀ k', o < k' → k' ≤ k → b < (sk_st (qs_K Q) k').length) → ∀ m, k < m → wY_openerOf_6 post g_n g_pr b_kind b_a b_b b_c b_var b_out b_left m (nI ((sk_st (qs_K Q) k).length - b)) (nI k - 1) := by
  intro d
  induction d with
  | zero =>
    intro k hk hkn ho hl m hm
    obtain ⟨m, rfl⟩ : ∃ m', m = m' + 1 := ⟨m - 1, by omega⟩
    have e : k = o + 1 := by omega
    subst e
    have l3 := sk_len3 _ ho
    have := hl (o + 1) (by omega) (by omega)
    rw [nI_pred]
    exact yo_step (w' := 0) hn hq hY (by omega) (ho o (by omega)) (by omega) (by omega) (fun _ => K) (fun z => absurd rfl z)
  | succ d ih =>
    intro k hk hkn ho hl m hm
    obtain ⟨m, rfl⟩ : ∃ m', m = m' + 1 := ⟨m - 1, by omega⟩
    obtain ⟨k, rfl⟩ : ∃ k', k = k' + 1 := ⟨k - 1, by omega⟩
    have l3 := sk_len3 _ ho
    have h1 := hl (k + 1) (by omega) (by omega)
    have h2 := hl k (by omega) (by omega)
    rw [nI_pred]
    refine yo_step (w' := (sk_st (qs_K Q) k).length - b) hn hq hY (by omega) (ho k (by omega)) (by omega) (by omega) (fun z => by omega) (fun _ => ?_)
    rw [yo_m1]
    exact ih k (by omega) (by omega) (sk_oks_le ho (by omega)) (fun k' a b => hl k' a (by omega)) m (by omega)
theorem yo_opener (hn : n ≤ 40) (hq : ∀ i, i < n → qs_ok Q i) (hY : qs_Y Q n b_kind b_a b_b b_c) (hi : i ≤ n) (ho : sk_oks (qs_K Q) i)
    (Kn : sk_st (qs_K Q) i = [] → post (-1)) (Ks : ∀ o p r, sk_st (qs_K Q) i = (o, p) :: r → post (nI o)) : wpY_openerOf post (g_n, g_pr, b_kind, b_a, b_b, b_c, b_var, b_out, b_left) (nI i) := by
  unfold wpY_openerOf
  dsimp only
  refine nm_e ⟨i + 1, ?_⟩
  cases hs : sk_st (qs_K Q) i with
  | nil =>
    have := yo_none (g_n := g_n) (g_pr := g_pr) (b_var := b_var) (b_out := b_out) (b_left := b_left) hn hq hY (Kn hs) i hi ho (i + 1) (by omega)
    rw [hs] at this; exact this
  | cons e r =>
    obtain ⟨a1, a2, a3, a4, a5⟩ := sk_inv i ho e.1 e.2 r hs
    have := yo_some (g_n := g_n) (g_pr := g_pr) (b_var := b_var) (b_out := b_out) (b_left := b_left) hn hq hY (Ks e.1 e.2 r hs) (b := r.length) (by rw [a3]) (i - (e.1 + 1)) i (by omega) hi ho a4 (i + 1) (by omega)
    rw [hs, List.length_cons, show r.length + 1 - r.length = 1 by omega] at this
    exact this
theorem yo_37 {J : Int32 → Int32 → Prop} {w k : Nat} (hw : w < 2 ^ 31) (K1 : w = 0 → post (nI k)) (K0 : w ≠ 0 → J (nI w) (nI (k + 1))) : wY_endOf_37 post J (nI w) (nI k) g_n g_pr b_kind b_a b_b b_c b_var b_out b_left := by
  unfold wY_endOf_37
  by_cases c : w = 0
  · exact br_t (by rw [c]; rfl) (K1 c)
  · exact br_f (nI_ne0 (by omega) hw) (nm_r (nI_1 _) (K0 c))
theorem yo_end4 (hlen : g_n = nI n) (hn : n ≤ 40) (hq : ∀ i, i < n → qs_ok Q i) (hY : qs_Y Q n b_kind b_a b_b b_c) (ho : sk_oks (qs_K Q) n) {o e : Nat} (he : sk_en (qs_K Q) n o e) (K : post (nI e)) : ∀ d k, k + d = e → o ≤ k → ∀ m, d < m → wY_endOf_4 post g_n g_pr b_kind b_a b_b b_c b_var b_out b_left m (nI ((sk_st (qs_K Q) k).length - (sk_st (qs_K Q) o).length)) (nI k) := by
  obtain ⟨e1, e2, e3, ⟨p, e4⟩, e5⟩ := he
  have tl : sk_st (qs_K Q) (e + 1) = sk_st (qs_K Q) o := by rw [sk_s11 e3, e4]; rfl
  intro d
  induction d with
  | zero =>
    intro k hk hok m hm
    obtain ⟨m, rfl⟩ : ∃ m', m = m' + 1 := ⟨m - 1, by omega⟩
    have ek : k = e := by omega
    subst ek
    unfold wY_endOf_4
    refine br_f (by rw [hlen]; exact nI_ge e2 (by omega)) ?_
    refine yo_opens hn hq hY e2 (fun z => by omega) (fun _ => br_t rfl ?_)
    unfold wY_endOf_23
    refine ⟨vp_in_nI (by omega) (by omega), ?_⟩
    rw [nI_clamp (by omega), (hY k e2).1]
    refine br_t (by rw [e3]; rfl) ?_
    rw [e4, List.length_cons, show (sk_st (qs_K Q) o).length + 1 - (sk_st (qs_K Q) o).length = 0 + 1 by omega]
    exact nm_r (pk_m1 _) (yo_37 (w := 0) (by omega) (fun _ => K) (fun z => absurd rfl z))
  | succ d ih =>
    intro k hk hok m hm
    obtain ⟨m, rfl⟩ : ∃ m', m = m' + 1 := ⟨m - 1, by omega⟩
    have hkn : k < n := by omega
    have k11 := (hq k hkn).1
    have L := yo_len (ho k hkn)
    have l3 := sk_len3 k (sk_oks_le ho (by omega))
    have l3' := sk_len3 (k + 1) (sk_oks_le ho (by omega))
    have g := e5 (k + 1) (by omega) (by omega)
    have g0 : (sk_st (qs_K Q) o).length ≤ (sk_st (qs_K Q) k).length := by
      by_cases c : k = o
      · rw [c]; exact Nat.le_refl _
      · have := e5 k (by omega) (by omega); omega
    have I := ih (k + 1) (by omega) (by omega) m (by omega)
    unfold wY_endOf_4
    refine br_f (by rw [hlen]; exact nI_ge hkn (by omega)) ?_
    have fin : wY_endOf_37 post (wY_endOf_4 post g_n g_pr b_kind b_a b_b b_c b_var b_out b_left m) (nI ((sk_st (qs_K Q) (k + 1)).length - (sk_st (qs_K Q) o).length)) (nI k) g_n g_pr b_kind b_a b_b b_c b_var b_out b_left := yo_37 (by omega) (fun z => by omega) (fun _ => I)
    refine yo_opens hn hq hY hkn (fun h8 => br_f (by decide) (nm_r (nI_1 _) ?_)) (fun h8 => br_t rfl ?_)
    · rw [if_pos h8, if_neg (by omega)] at L
      unfold wY_endOf_23
      refine ⟨vp_in_nI (by omega) (by omega), ?_⟩
      rw [nI_clamp (by omega), (hY k hkn).1]
      refine br_f (yo_ne (k := 11) k11 (by omega) (by omega)) ?_
      rw [show (sk_st (qs_K Q) k).length - (sk_st (qs_K Q) o).length + 1 = (sk_st (qs_K Q) (k + 1)).length - (sk_st (qs_K Q) o).length by omega]
      exact fin
    · rw [if_neg h8] at L
      unfold wY_endOf_23
      refine ⟨vp_in_nI (by omega) (by omega), ?_⟩
      rw [nI_clamp (by omega), (hY k hkn).1]
      by_cases c : qs_K Q k = 11
      · rw [if_pos c] at L
        refine br_t (by rw [c]; rfl) ?_
        rw [show (sk_st (qs_K Q) k).length - (sk_st (qs_K Q) o).length = (sk_st (qs_K Q) (k + 1)).length - (sk_st (qs_K Q) o).length + 1 by omega]
        exact nm_r (pk_m1 _) fin
      · rw [if_neg c] at L
        refine br_f (yo_ne (k := 11) k11 (by omega) c) ?_
        rw [show (sk_st (qs_K Q) k).length - (sk_st (qs_K Q) o).length = (sk_st (qs_K Q) (k + 1)).length - (sk_st (qs_K Q) o).length by omega]
        exact fin
theorem yo_end (hlen : g_n = nI n) (hn : n ≤ 40) (hq : ∀ i, i < n → qs_ok Q i) (hY : qs_Y Q n b_kind b_a b_b b_c) (ho : sk_oks (qs_K Q) n) {o e : Nat} (he : sk_en (qs_K Q) n o e) (K : post (nI e)) : wpY_endOf post (g_n, g_pr, b_kind, b_a, b_b, b_c, b_var, b_out, b_left) (nI o) := by
  have h := he.1
  have := yo_end4 (g_n := g_n) (g_pr := g_pr) (b_var := b_var) (b_out := b_out) (b_left := b_left) hlen hn hq hY ho he K (e - o) o (by omega) (Nat.le_refl _) (e - o + 1) (by omega)
  rw [Nat.sub_self] at this
  exact ⟨_, this⟩
-- k is an ELSE of o
def yo_is (Q : qs_T) (o k : Nat) : Prop := qs_K Q k = 9 ∧ ∃ p r, sk_st (qs_K Q) k = (o, p) :: r
theorem yo_ask (hn : n ≤ 40) (hq : ∀ i, i < n → qs_ok Q i) (hY : qs_Y Q n b_kind b_a b_b b_c) {o k : Nat} (ho : sk_oks (qs_K Q) (k + 1)) (hk : k < n) (hon : o < n) {A B : Prop} (h9 : qs_K Q k = 9)
    (K1 : yo_is Q o k → A) (K0 : ¬ yo_is Q o k → B) : wpY_openerOf (fun r => (r = nI o → A) ∧ (¬ r = nI o → B)) (g_n, g_pr, b_kind, b_a, b_b, b_c, b_var, b_out, b_left) (nI k) := by
  obtain ⟨o', r', h1, h2⟩ := (ho k (by omega)).2.1 h9
  refine yo_opener hn hq hY (by omega) (sk_oks_le ho (by omega)) (fun z => by rw [z] at h1; exact absurd h1 (by simp)) ?_
  intro q p r hs
  have hqk := (sk_inv k (sk_oks_le ho (by omega)) q p r hs).1
  by_cases c : q = o
  · subst c; exact br_t rfl (K1 ⟨h9, p, r, hs⟩)
  · refine br_f (fun z => c ((nI_eq (by omega) (by omega)).mp z)) (K0 ?_)
    rintro ⟨_, p2, r2, h3⟩
    rw [hs] at h3
    injection h3 with h4
    injection h4 with h5
    exact c h5
theorem yo_27 (hn : n ≤ 40) (hq : ∀ i, i < n → qs_ok Q i) (hY : qs_Y Q n b_kind b_a b_b b_c) {o : Nat} (hi : i ≤ n) (ho : sk_oks (qs_K Q) i) (hon : o < n) : ∀ d k, k + d = i → ((∃ j, k ≤ j ∧ j < i ∧ yo_is Q o j) → post 0) → ((¬ ∃ j, k ≤ j ∧ j < i ∧ yo_is Q o j) → post 1) → ∀ m, d < m → wY_elseFits_27 post (nI i) (nI o) g_n g_pr b_kind b_a b_b b_c b_var b_out b_left m (nI k) := by
  intro d
  induction d with
  | zero =>
    intro k hk K0 K1 m hm
    obtain ⟨m, rfl⟩ : ∃ m', m = m' + 1 := ⟨m - 1, by omega⟩
    refine br_t (nI_le (by omega) (by omega)) (K1 ?_)
    rintro ⟨j, h1, h2, _⟩; omega
  | succ d ih =>
    intro k hk K0 K1 m hm
    obtain ⟨m, rfl⟩ : ∃ m', m = m' + 1 := ⟨m - 1, by omega⟩
    have hkn : k < n := by omega
    have k11 := (hq k hkn).1
    have go : ¬ yo_is Q o k → wY_elseFits_27 post (nI i) (nI o) g_n g_pr b_kind b_a b_b b_c b_var b_out b_left m (nI (k + 1)) := by
      intro hno
      refine ih (k + 1) (by omega) (fun h => K0 ?_) (fun h => K1 ?_) m (by omega)
      · obtain ⟨j, h1, h2, h3⟩ := h
        exact ⟨j, by omega, h2, h3⟩
      · rintro ⟨j, h1, h2, h3⟩
        by_cases c : j = k
        · subst c; exact hno h3
        · exact h ⟨j, by omega, h2, h3⟩
    unfold wY_elseFits_27
    refine br_f (nI_ge (by omega) (by omega)) ⟨vp_in_nI (by omega) (by omega), ?_⟩
    rw [nI_clamp (by omega), (hY k hkn).1]
    by_cases c : qs_K Q k = 9
    · refine br_t (by rw [c]; rfl) ?_
      exact yo_ask hn hq hY (sk_oks_le ho (by omega)) hkn hon c (fun h => K0 ⟨k, by omega, by omega, h⟩) (fun h => nm_r (nI_1 _) (go h))
    · exact br_f (yo_ne (k := 9) k11 (by omega) c) (nm_r (nI_1 _) (go (fun z => c z.1)))
theorem yo_fits (hn : n ≤ 40) (hq : ∀ i, i < n → qs_ok Q i) (hY : qs_Y Q n b_kind b_a b_b b_c) (hi : i < n) (ho : sk_oks (qs_K Q) i) (h9 : qs_K Q i = 9)
    (K1 : sk_ok (qs_K Q) i → post 1) (K0 : ¬ sk_ok (qs_K Q) i → post 0) : wpY_elseFits post (g_n, g_pr, b_kind, b_a, b_b, b_c, b_var, b_out, b_left) (nI i) := by
  unfold wpY_elseFits
  dsimp only
  refine yo_opener hn hq hY (by omega) ho (fun hs => ?_) (fun o p r hs => ?_)
  · refine br_t (by decide) (K0 (fun z => ?_))
    obtain ⟨o, r, h1, _⟩ := z.2.1 h9
    rw [hs] at h1; exact absurd h1 (by simp)
  · obtain ⟨a1, a2, a3, a4, a5⟩ := sk_inv i ho o p r hs
    refine br_f (nI_pos (by omega)) ⟨vp_in_nI (by omega) (by omega), ?_⟩
    rw [nI_clamp (by omega), (hY o (by omega)).1]
    by_cases c : qs_K Q o = 8
    · refine br_t (by rw [c]; rfl) (nm_r (nI_1 _) ⟨i - (o + 1) + 1, ?_⟩)
      refine yo_27 hn hq hY (by omega) ho (by omega) (i - (o + 1)) (o + 1) (by omega) (fun h => K0 (fun z => ?_)) (fun h => K1 ?_) _ (by omega)
      · obtain ⟨j, h1, h2, h3, p', r', h4⟩ := h
        obtain ⟨o2, r2, h5, _⟩ := z.2.1 h9
        rw [hs] at h5
        injection h5 with h6
        injection h6 with h7 h8
        rcases a5 with b | b
        · exact b.2 j (by omega) h2 h3 p' r' h4
        · omega
      · rcases a5 with b | b
        · refine ⟨fun z => by omega, fun _ => ⟨o, r, ?_, c⟩, fun z => by omega⟩
          rw [hs, b.1]
        · exact absurd ⟨p, by omega, b.2.1, b.2.2.1, o, r, b.2.2.2.2⟩ h
    · refine br_f (yo_ne (k := 8) (by omega) (by omega) c) (K0 (fun z => ?_))
      obtain ⟨o2, r2, h5, h6⟩ := z.2.1 h9
      rw [hs] at h5
      injection h5 with h7
      injection h7 with h8
      rw [← h8] at h6
      exact c h6
theorem yo_s4 (hlen : g_n = nI n) (hn : n ≤ 40) (hq : ∀ i, i < n → qs_ok Q i) (hY : qs_Y Q n b_kind b_a b_b b_c) (K1 : sk_snd (qs_K Q) n → post 1) (K0 : ¬ sk_snd (qs_K Q) n → post 0) : ∀ d i, i + d = n → sk_oks (qs_K Q) i → ∀ m, d < m → wY_sound_4 post g_n g_pr b_kind b_a b_b b_c b_var b_out b_left m (nI (sk_st (qs_K Q) i).length) (nI i) := by
  intro d
  induction d with
  | zero =>
    intro i hi ho m hm
    obtain ⟨m, rfl⟩ : ∃ m', m = m' + 1 := ⟨m - 1, by omega⟩
    have e : i = n := by omega
    subst e
    have st3 := sk_len3 i ho
    refine br_t (by rw [hlen]; exact nI_le (Nat.le_refl _) (by omega)) ?_
    by_cases c : sk_st (qs_K Q) i = []
    · exact br_t (by rw [c]; rfl) (K1 ⟨ho, c⟩)
    · exact br_f (nI_ne0 (List.length_pos_iff.mpr c) (by omega)) (K0 (fun z => c z.2))
  | succ d ih =>
    intro i hi ho m hm
    obtain ⟨m, rfl⟩ : ∃ m', m = m' + 1 := ⟨m - 1, by omega⟩
    have hin : i < n := by omega
    have st3 := sk_len3 i ho
    have k11 := (hq i hin).1
    have hi40 : vp_in (nI i) 40 := vp_in_nI (by omega) (by omega)
    have bad : ¬ sk_ok (qs_K Q) i → post 0 := fun h => K0 (fun z => h (z.1 i hin))
    have good : sk_ok (qs_K Q) i → wY_sound_4 post g_n g_pr b_kind b_a b_b b_c b_var b_out b_left m (nI (sk_st (qs_K Q) (i + 1)).length) (nI (i + 1)) := fun ok => ih (i + 1) (by omega) (sk_oks_s ho ok) m (by omega)
    unfold wY_sound_4
    refine br_f (by rw [hlen]; exact nI_ge hin (by omega)) ?_
    refine yo_opens hn hq hY hin (fun h8 => br_f (by decide) (nm_r (nI_1 _) ?_)) (fun h8 => br_t rfl ?_)
    · unfold wY_sound_23
      rw [nI_clamp (by omega), (hY i hin).1]
      refine ⟨hi40, br_f (yo_ne (k := 11) k11 (by omega) (by omega)) ?_⟩
      unfold wY_sound_37
      rw [nI_clamp (by omega), (hY i hin).1]
      refine br_f (nI_pos (by omega)) ?_
      by_cases c : (sk_st (qs_K Q) i).length + 1 ≤ 3
      · refine br_t (nI_le (b := 3) c (by decide)) ⟨hi40, br_f (yo_ne (k := 9) k11 (by omega) (by omega)) (nm_r (nI_1 _) ?_)⟩
        have := good ⟨fun _ => by omega, fun z => by omega, fun z => by omega⟩
        rw [sk_s8 h8, List.length_cons] at this
        exact this
      · refine br_f (nI_ge (a := 3) (by omega) (by omega)) (bad (fun z => ?_))
        have := z.1 h8; omega
    · unfold wY_sound_23
      rw [nI_clamp (by omega), (hY i hin).1]
      refine ⟨hi40, ?_⟩
      by_cases c11 : qs_K Q i = 11
      · refine br_t (by rw [c11]; rfl) ?_
        cases hst : sk_st (qs_K Q) i with
        | nil =>
          refine nm_e ?_
          unfold wY_sound_37
          refine br_t (by decide) (bad (fun z => ?_))
          obtain ⟨o, p, r, h1⟩ := z.2.2 c11
          rw [hst] at h1; exact absurd h1 (by simp)
        | cons e r =>
          rw [hst, List.length_cons] at st3
          rw [List.length_cons]
          refine nm_r (pk_m1 _) ?_
          unfold wY_sound_37
          rw [nI_clamp (by omega), (hY i hin).1]
          refine br_f (nI_pos (by omega)) (br_t (nI_le (b := 3) (by omega) (by decide)) ⟨hi40, br_f (yo_ne (k := 9) k11 (by omega) (by omega)) (nm_r (nI_1 _) ?_)⟩)
          have := good ⟨fun _ => by omega, fun z => by omega, fun _ => ⟨e.1, e.2, r, hst⟩⟩
          rw [sk_s11 c11, hst] at this
          exact this
      · refine br_f (yo_ne (k := 11) k11 (by omega) c11) ?_
        unfold wY_sound_37
        rw [nI_clamp (by omega), (hY i hin).1]
        refine br_f (nI_pos (by omega)) (br_t (nI_le (b := 3) (by omega) (by decide)) ⟨hi40, ?_⟩)
        by_cases c9 : qs_K Q i = 9
        · refine br_t (by rw [c9]; rfl) ?_
          refine yo_fits hn hq hY hin ho c9 (fun ok => br_f (by decide) (nm_r (nI_1 _) ?_)) (fun nok => br_t rfl (bad nok))
          have := good ok
          obtain ⟨o, r, h1, _⟩ := ok.2.1 c9
          rw [sk_s9 c9, h1] at this
          rw [h1]; exact this
        · refine br_f (yo_ne (k := 9) k11 (by omega) c9) (nm_r (nI_1 _) ?_)
          have := good ⟨fun z => by omega, fun z => by omega, fun z => by omega⟩
          rw [sk_sn h8 c9 c11] at this
          exact this
theorem yo_sound (hlen : g_n = nI n) (hn : n ≤ 40) (hq : ∀ i, i < n → qs_ok Q i) (hY : qs_Y Q n b_kind b_a b_b b_c) (K1 : sk_snd (qs_K Q) n → post 1) (K0 : ¬ sk_snd (qs_K Q) n → post 0) : wpY_sound post (g_n, g_pr, b_kind, b_a, b_b, b_c, b_var, b_out, b_left) :=
  ⟨n + 1, yo_s4 hlen hn hq hY K1 K0 n 0 (by omega) (fun j hj => by omega) _ (by omega)⟩
-- the ELSE of a choice
theorem yo_10 (hn : n ≤ 40) (hq : ∀ i, i < n → qs_ok Q i) (hY : qs_Y Q n b_kind b_a b_b b_c) (ho : sk_oks (qs_K Q) n) {o e : Nat} (he : e ≤ n) (hon : o < n) {j : Nat} (hj : yo_is Q o j ∨ j = e) (Ke : j = e → post (-1)) (Kj : yo_is Q o j → j < e → post (nI j)) : ∀ d k, k + d = j → j ≤ e → (∀ k', k ≤ k' → k' < j → ¬ yo_is Q o k') → ∀ m, d < m → wY_elseOf_10 post (nI o) (nI e) g_n g_pr b_kind b_a b_b b_c b_var b_out b_left m (nI k) := by
  intro d
  induction d with
  | zero =>
    intro k hk hje hno m hm
    obtain ⟨m, rfl⟩ : ∃ m', m = m' + 1 := ⟨m - 1, by omega⟩
    have ek : k = j := by omega
    subst ek
    by_cases c : k = e
    · exact br_t (by rw [c]; exact nI_le (Nat.le_refl _) (by omega)) (Ke c)
    · have hj' := hj.resolve_right c
      have hkn : k < n := by omega
      unfold wY_elseOf_10
      refine br_f (nI_ge (by omega) (by omega)) ⟨vp_in_nI (by omega) (by omega), ?_⟩
      rw [nI_clamp (by omega), (hY k hkn).1]
      refine br_t (by rw [hj'.1]; rfl) ?_
      exact yo_ask hn hq hY (sk_oks_le ho (by omega)) hkn hon hj'.1 (fun h => Kj h (by omega)) (fun h => absurd hj' h)
  | succ d ih =>
    intro k hk hje hno m hm
    obtain ⟨m, rfl⟩ : ∃ m', m = m' + 1 := ⟨m - 1, by omega⟩
    have hkn : k < n := by omega
    have k11 := (hq k hkn).1
    have I := ih (k + 1) (by omega) hje (fun k' a b => hno k' (by omega) b) m (by omega)
    have nk := hno k (Nat.le_refl _) (by omega)
    unfold wY_elseOf_10
    refine br_f (nI_ge (by omega) (by omega)) ⟨vp_in_nI (by omega) (by omega), ?_⟩
    rw [nI_clamp (by omega), (hY k hkn).1]
    by_cases c : qs_K Q k = 9
    · refine br_t (by rw [c]; rfl) ?_
      exact yo_ask hn hq hY (sk_oks_le ho (by omega)) hkn hon c (fun h => absurd h nk) (fun _ => nm_r (nI_1 _) I)
    · exact br_f (yo_ne (k := 9) k11 (by omega) c) (nm_r (nI_1 _) I)
-- m1 is the next sibling boundary of the choice at i
theorem yo_elseOf (hlen : g_n = nI n) (hn : n ≤ 40) (hq : ∀ i, i < n → qs_ok Q i) (hY : qs_Y Q n b_kind b_a b_b b_c) (ho : sk_oks (qs_K Q) n) {e m1 : Nat} (hi : i < n) (he : sk_en (qs_K Q) n i e) (h1 : i < m1) (h2 : m1 ≤ e) (hs : sk_st (qs_K Q) m1 = (i, i) :: sk_st (qs_K Q) i) (hk : m1 = e ∨ qs_K Q m1 = 9)
    (Ke : m1 = e → post (-1)) (Kj : qs_K Q m1 = 9 → post (nI m1)) : wpY_elseOf post (g_n, g_pr, b_kind, b_a, b_b, b_c, b_var, b_out, b_left) (nI i) := by
  have e2 := he.2.1
  unfold wpY_elseOf
  dsimp only
  refine yo_end hlen hn hq hY ho he (nm_r (nI_1 _) ⟨m1 - (i + 1) + 1, ?_⟩)
  refine yo_10 hn hq hY ho (o := i) (e := e) (j := m1) (by omega) hi ?_ Ke (fun h _ => Kj h.1) (m1 - (i + 1)) (i + 1) (by omega) h2 ?_ _ (by omega)
  · rcases hk with h | h
    · exact Or.inr h
    · exact Or.inl ⟨h, i, _, hs⟩
  · intro k a b
    obtain ⟨a1, a2, a3, a4, a5⟩ := sk_inv m1 (sk_oks_le ho (by omega)) i i _ hs
    rintro ⟨k9, p, r, hst⟩
    rcases a5 with z | z
    · exact z.2 k (by omega) b k9 p r hst
    · omega
end
end
section
section
variable {g_n g_pr : Int32} {b_kind b_a b_b b_c b_var b_out b_left : Nat → Int32}
variable {Q : qs_T} {n i : Nat} {post : SY → Prop}
theorem yp_286 (hn : n ≤ 40) (hq : qs_ok Q i) (hY : qs_Y Q n b_kind b_a b_b b_c) (hi : i < n) (h : ¬ qs_K Q i = 7) (K : post (g_n, g_pr, b_kind, b_a, b_b, b_c, b_var, b_out, b_left)) : wY_plain_286 post (nI i) g_n g_pr b_kind b_a b_b b_c b_var b_out b_left := by
  unfold wY_plain_286
  rw [nI_clamp (by omega), (hY i hi).1]
  exact ⟨vp_in_nI (by omega) (by omega), br_f (yo_ne (k := 7) hq.1 (by omega) h) K⟩
theorem yp_286p {c : Nat} (hn : n ≤ 40) (hq : qs_ok Q i) (hY : qs_Y Q n b_kind b_a b_b b_c) (hi : i < n) (h : qs_K Q i = 7) (hc : c < 90000) (K : post (g_n, nI (c + 1), b_kind, b_a, b_b, b_c, b_var, vm_pr b_out c (b_var (qs_A Q i)), b_left)) : wY_plain_286 post (nI i) g_n (nI c) b_kind b_a b_b b_c b_var b_out b_left := by
  have a5 := hq.2.1 (by omega) (by omega)
  have hi40 : vp_in (nI i) 40 := vp_in_nI (by omega) (by omega)
  obtain ⟨y1, y2, y3, y4, y5⟩ := hY i hi
  unfold wY_plain_286
  rw [nI_clamp (by omega), y1, y2 (by omega) (by omega)]
  refine ⟨hi40, br_t (by rw [h]; rfl) ?_⟩
  unfold vm_pr at K
  by_cases h64 : c < 64
  · rw [if_pos h64] at K
    refine br_f (nI_ge (b := 64) h64 (by decide)) ⟨hi40, vp_in_nI (by omega) (by omega), vp_in_nI h64 (by omega), nm_e (nm_r (nI_1 _) ?_)⟩
    rw [nI_clamp (by omega), nI_clamp (by omega)]
    exact K
  · rw [if_neg h64] at K
    exact br_t (nI_le (a := 64) (by omega) (by omega)) (nm_r (nI_1 _) K)
theorem yp_s234 (hn : n ≤ 40) (hq : qs_ok Q i) (hY : qs_Y Q n b_kind b_a b_b b_c) (hi : i < n) (h : ¬ qs_K Q i = 6) (K : wY_plain_286 post (nI i) g_n g_pr b_kind b_a b_b b_c b_var b_out b_left) : wY_plain_234 post (nI i) g_n g_pr b_kind b_a b_b b_c b_var b_out b_left := by
  unfold wY_plain_234
  rw [nI_clamp (by omega), (hY i hi).1]
  exact ⟨vp_in_nI (by omega) (by omega), br_f (yo_ne (k := 6) hq.1 (by omega) h) K⟩
theorem yp_s190 (hn : n ≤ 40) (hq : qs_ok Q i) (hY : qs_Y Q n b_kind b_a b_b b_c) (hi : i < n) (h : ¬ qs_K Q i = 5) (K : wY_plain_234 post (nI i) g_n g_pr b_kind b_a b_b b_c b_var b_out b_left) : wY_plain_190 post (nI i) g_n g_pr b_kind b_a b_b b_c b_var b_out b_left := by
  unfold wY_plain_190
  rw [nI_clamp (by omega), (hY i hi).1]
  exact ⟨vp_in_nI (by omega) (by omega), br_f (yo_ne (k := 5) hq.1 (by omega) h) K⟩
theorem yp_s146 (hn : n ≤ 40) (hq : qs_ok Q i) (hY : qs_Y Q n b_kind b_a b_b b_c) (hi : i < n) (h : ¬ qs_K Q i = 4) (K : wY_plain_190 post (nI i) g_n g_pr b_kind b_a b_b b_c b_var b_out b_left) : wY_plain_146 post (nI i) g_n g_pr b_kind b_a b_b b_c b_var b_out b_left := by
  unfold wY_plain_146
  rw [nI_clamp (by omega), (hY i hi).1]
  exact ⟨vp_in_nI (by omega) (by omega), br_f (yo_ne (k := 4) hq.1 (by omega) h) K⟩
theorem yp_s102 (hn : n ≤ 40) (hq : qs_ok Q i) (hY : qs_Y Q n b_kind b_a b_b b_c) (hi : i < n) (h : ¬ qs_K Q i = 3) (K : wY_plain_146 post (nI i) g_n g_pr b_kind b_a b_b b_c b_var b_out b_left) : wY_plain_102 post (nI i) g_n g_pr b_kind b_a b_b b_c b_var b_out b_left := by
  unfold wY_plain_102
  rw [nI_clamp (by omega), (hY i hi).1]
  exact ⟨vp_in_nI (by omega) (by omega), br_f (yo_ne (k := 3) hq.1 (by omega) h) K⟩
theorem yp_s58 (hn : n ≤ 40) (hq : qs_ok Q i) (hY : qs_Y Q n b_kind b_a b_b b_c) (hi : i < n) (h : ¬ qs_K Q i = 2) (K : wY_plain_102 post (nI i) g_n g_pr b_kind b_a b_b b_c b_var b_out b_left) : wY_plain_58 post (nI i) g_n g_pr b_kind b_a b_b b_c b_var b_out b_left := by
  unfold wY_plain_58
  rw [nI_clamp (by omega), (hY i hi).1]
  exact ⟨vp_in_nI (by omega) (by omega), br_f (yo_ne (k := 2) hq.1 (by omega) h) K⟩
theorem yp_s26 (hn : n ≤ 40) (hq : qs_ok Q i) (hY : qs_Y Q n b_kind b_a b_b b_c) (hi : i < n) (h : ¬ qs_K Q i = 1) (K : wY_plain_58 post (nI i) g_n g_pr b_kind b_a b_b b_c b_var b_out b_left) : wY_plain_26 post (nI i) g_n g_pr b_kind b_a b_b b_c b_var b_out b_left := by
  unfold wY_plain_26
  rw [nI_clamp (by omega), (hY i hi).1]
  exact ⟨vp_in_nI (by omega) (by omega), br_f (yo_ne (k := 1) hq.1 (by omega) h) K⟩
theorem yp_s0 (hn : n ≤ 40) (hq : qs_ok Q i) (hY : qs_Y Q n b_kind b_a b_b b_c) (hi : i < n) (h : ¬ qs_K Q i = 0) (K : wY_plain_26 post (nI i) g_n g_pr b_kind b_a b_b b_c b_var b_out b_left) : wpY_plain post (g_n, g_pr, b_kind, b_a, b_b, b_c, b_var, b_out, b_left) (nI i) := by
  unfold wpY_plain
  dsimp only
  rw [nI_clamp (by omega), (hY i hi).1]
  exact ⟨vp_in_nI (by omega) (by omega), br_f (yo_ne (k := 0) hq.1 (by omega) h) K⟩
-- one statement that computes
theorem yp_o0 (hn : n ≤ 40) (hq : qs_ok Q i) (hY : qs_Y Q n b_kind b_a b_b b_c) (hi : i < n) (h : qs_K Q i = 0) (K : wY_plain_26 post (nI i) g_n g_pr b_kind b_a b_b b_c (upd b_var (qs_A Q i) (qs_V Q i)) b_out b_left) : wpY_plain post (g_n, g_pr, b_kind, b_a, b_b, b_c, b_var, b_out, b_left) (nI i) := by
  have a5 := hq.2.1 (by omega) (by omega)
  have hi40 : vp_in (nI i) 40 := vp_in_nI (by omega) (by omega)
  obtain ⟨y1, y2, y3, y4, y5⟩ := hY i hi
  unfold wpY_plain
  dsimp only
  rw [nI_clamp (by omega), y1, y2 (by omega) (by omega), y3 h, nI_clamp (n := qs_A Q i) (by omega)]
  exact ⟨hi40, br_t (by rw [h]; rfl) ⟨hi40, hi40, vp_in_nI (by omega) (by omega), nm_e K⟩⟩
theorem yp_o26 (hn : n ≤ 40) (hq : qs_ok Q i) (hY : qs_Y Q n b_kind b_a b_b b_c) (hi : i < n) (h : qs_K Q i = 1) (K : wY_plain_58 post (nI i) g_n g_pr b_kind b_a b_b b_c (upd b_var (qs_A Q i) (b_var (qs_B Q i))) b_out b_left) : wY_plain_26 post (nI i) g_n g_pr b_kind b_a b_b b_c b_var b_out b_left := by
  have a5 := hq.2.1 (by omega) (by omega)
  have b5 := hq.2.2.1 (by omega) (by omega)
  have hi40 : vp_in (nI i) 40 := vp_in_nI (by omega) (by omega)
  obtain ⟨y1, y2, y3, y4, y5⟩ := hY i hi
  unfold wY_plain_26
  rw [nI_clamp (by omega), y1, y2 (by omega) (by omega), y4 (by omega) (by omega), nI_clamp (n := qs_A Q i) (by omega), nI_clamp (n := qs_B Q i) (by omega)]
  exact ⟨hi40, br_t (by rw [h]; rfl) ⟨hi40, hi40, vp_in_nI (by omega) (by omega), vp_in_nI (by omega) (by omega), nm_e K⟩⟩
theorem yp_o190 (hn : n ≤ 40) (hq : qs_ok Q i) (hY : qs_Y Q n b_kind b_a b_b b_c) (hi : i < n) (h : qs_K Q i = 5) (K : wY_plain_234 post (nI i) g_n g_pr b_kind b_a b_b b_c (upd b_var (qs_A Q i) (vm_cp 5 (b_var (qs_B Q i)) (b_var (qs_C Q i)))) b_out b_left) : wY_plain_190 post (nI i) g_n g_pr b_kind b_a b_b b_c b_var b_out b_left := by
  have a5 := hq.2.1 (by omega) (by omega)
  have b5 := hq.2.2.1 (by omega) (by omega)
  have c5 := hq.2.2.2 (by omega) (by omega)
  have hi40 : vp_in (nI i) 40 := vp_in_nI (by omega) (by omega)
  obtain ⟨y1, y2, y3, y4, y5⟩ := hY i hi
  unfold wY_plain_190
  rw [nI_clamp (by omega), y1, y2 (by omega) (by omega), y4 (by omega) (by omega), y5 (by omega) (by omega), nI_clamp (n := qs_A Q i) (by omega), nI_clamp (n := qs_B Q i) (by omega), nI_clamp (n := qs_C Q i) (by omega)]
  exact ⟨hi40, br_t (by rw [h]; rfl) ⟨hi40, hi40, vp_in_nI (by omega) (by omega), hi40, vp_in_nI (by omega) (by omega), vp_in_nI (by omega) (by omega), nm_e K⟩⟩
theorem yp_o146 (hn : n ≤ 40) (hq : qs_ok Q i) (hY : qs_Y Q n b_kind b_a b_b b_c) (hi : i < n) (h : qs_K Q i = 4) (K : wY_plain_190 post (nI i) g_n g_pr b_kind b_a b_b b_c (upd b_var (qs_A Q i) (vm_cp 4 (b_var (qs_B Q i)) (b_var (qs_C Q i)))) b_out b_left) : wY_plain_146 post (nI i) g_n g_pr b_kind b_a b_b b_c b_var b_out b_left := by
  have a5 := hq.2.1 (by omega) (by omega)
  have b5 := hq.2.2.1 (by omega) (by omega)
  have c5 := hq.2.2.2 (by omega) (by omega)
  have hi40 : vp_in (nI i) 40 := vp_in_nI (by omega) (by omega)
  obtain ⟨y1, y2, y3, y4, y5⟩ := hY i hi
  unfold wY_plain_146
  rw [nI_clamp (by omega), y1, y2 (by omega) (by omega), y4 (by omega) (by omega), y5 (by omega) (by omega), nI_clamp (n := qs_A Q i) (by omega), nI_clamp (n := qs_B Q i) (by omega), nI_clamp (n := qs_C Q i) (by omega)]
  exact ⟨hi40, br_t (by rw [h]; rfl) ⟨hi40, hi40, vp_in_nI (by omega) (by omega), hi40, vp_in_nI (by omega) (by omega), vp_in_nI (by omega) (by omega), nm_e K⟩⟩
theorem yp_o102 (hn : n ≤ 40) (hq : qs_ok Q i) (hY : qs_Y Q n b_kind b_a b_b b_c) (hi : i < n) (h : qs_K Q i = 3) (K : wY_plain_146 post (nI i) g_n g_pr b_kind b_a b_b b_c (upd b_var (qs_A Q i) (vm_cp 3 (b_var (qs_B Q i)) (b_var (qs_C Q i)))) b_out b_left) : wY_plain_102 post (nI i) g_n g_pr b_kind b_a b_b b_c b_var b_out b_left := by
  have a5 := hq.2.1 (by omega) (by omega)
  have b5 := hq.2.2.1 (by omega) (by omega)
  have c5 := hq.2.2.2 (by omega) (by omega)
  have hi40 : vp_in (nI i) 40 := vp_in_nI (by omega) (by omega)
  obtain ⟨y1, y2, y3, y4, y5⟩ := hY i hi
  unfold wY_plain_102
  rw [nI_clamp (by omega), y1, y2 (by omega) (by omega), y4 (by omega) (by omega), y5 (by omega) (by omega), nI_clamp (n := qs_A Q i) (by omega), nI_clamp (n := qs_B Q i) (by omega), nI_clamp (n := qs_C Q i) (by omega)]
  exact ⟨hi40, br_t (by rw [h]; rfl) ⟨hi40, hi40, vp_in_nI (by omega) (by omega), hi40, vp_in_nI (by omega) (by omega), vp_in_nI (by omega) (by omega), nm_e K⟩⟩
theorem yp_o58 (hn : n ≤ 40) (hq : qs_ok Q i) (hY : qs_Y Q n b_kind b_a b_b b_c) (hi : i < n) (h : qs_K Q i = 2) (K : wY_plain_102 post (nI i) g_n g_pr b_kind b_a b_b b_c (upd b_var (qs_A Q i) (vm_cp 2 (b_var (qs_B Q i)) (b_var (qs_C Q i)))) b_out b_left) : wY_plain_58 post (nI i) g_n g_pr b_kind b_a b_b b_c b_var b_out b_left := by
  have a5 := hq.2.1 (by omega) (by omega)
  have b5 := hq.2.2.1 (by omega) (by omega)
  have c5 := hq.2.2.2 (by omega) (by omega)
  have hi40 : vp_in (nI i) 40 := vp_in_nI (by omega) (by omega)
  obtain ⟨y1, y2, y3, y4, y5⟩ := hY i hi
  unfold wY_plain_58
  rw [nI_clamp (by omega), y1, y2 (by omega) (by omega), y4 (by omega) (by omega), y5 (by omega) (by omega), nI_clamp (n := qs_A Q i) (by omega), nI_clamp (n := qs_B Q i) (by omega), nI_clamp (n := qs_C Q i) (by omega)]
  exact ⟨hi40, br_t (by rw [h]; rfl) ⟨hi40, hi40, vp_in_nI (by omega) (by omega), hi40, vp_in_nI (by omega) (by omega), vp_in_nI (by omega) (by omega), nm_e K⟩⟩
theorem yp_o234 (hn : n ≤ 40) (hq : qs_ok Q i) (hY : qs_Y Q n b_kind b_a b_b b_c) (hi : i < n) (h : qs_K Q i = 6) (K : wY_plain_286 post (nI i) g_n g_pr b_kind b_a b_b b_c (upd b_var (qs_A Q i) (vm_cp 6 (b_var (qs_B Q i)) (b_var (qs_C Q i)))) b_out b_left) : wY_plain_234 post (nI i) g_n g_pr b_kind b_a b_b b_c b_var b_out b_left := by
  have a5 := hq.2.1 (by omega) (by omega)
  have b5 := hq.2.2.1 (by omega) (by omega)
  have c5 := hq.2.2.2 (by omega) (by omega)
  have hi40 : vp_in (nI i) 40 := vp_in_nI (by omega) (by omega)
  obtain ⟨y1, y2, y3, y4, y5⟩ := hY i hi
  unfold wY_plain_234
  rw [nI_clamp (by omega), y1, y2 (by omega) (by omega), y4 (by omega) (by omega), y5 (by omega) (by omega), nI_clamp (n := qs_B Q i) (by omega), nI_clamp (n := qs_C Q i) (by omega)]
  refine ⟨hi40, br_t (by rw [h]; rfl) ⟨hi40, hi40, vp_in_nI (by omega) (by omega), hi40, vp_in_nI (by omega) (by omega), ?_⟩⟩
  have e : vm_cp 6 (b_var (qs_B Q i)) (b_var (qs_C Q i)) = if b_var (qs_B Q i) < b_var (qs_C Q i) then 1 else 0 := rfl
  rw [e] at K
  by_cases c : b_var (qs_B Q i) < b_var (qs_C Q i)
  · rw [if_pos c] at K
    refine br_f (Int32.not_le.mpr c) ?_
    unfold wY_plain_285
    rw [nI_clamp (n := qs_A Q i) (by omega)]
    exact ⟨vp_in_nI (by omega) (by omega), nm_e K⟩
  · rw [if_neg c] at K
    refine br_t (Int32.not_lt.mp c) ?_
    unfold wY_plain_285
    rw [nI_clamp (n := qs_A Q i) (by omega)]
    exact ⟨vp_in_nI (by omega) (by omega), nm_e K⟩
theorem yp_plain (hn : n ≤ 40) (hq : qs_ok Q i) (hY : qs_Y Q n b_kind b_a b_b b_c) (hi : i < n) (h6 : qs_K Q i ≤ 6) (K : post (g_n, g_pr, b_kind, b_a, b_b, b_c, upd b_var (qs_A Q i) (ys_x Q i b_var), b_out, b_left)) : wpY_plain post (g_n, g_pr, b_kind, b_a, b_b, b_c, b_var, b_out, b_left) (nI i) := by
  unfold ys_x at K
  have hk : qs_K Q i = 0 ∨ qs_K Q i = 1 ∨ qs_K Q i = 2 ∨ qs_K Q i = 3 ∨ qs_K Q i = 4 ∨ qs_K Q i = 5 ∨ qs_K Q i = 6 := by omega
  rcases hk with k | k | k | k | k | k | k
  · rw [if_pos k] at K
    exact yp_o0 hn hq hY hi k (yp_s26 hn hq hY hi (by omega) (yp_s58 hn hq hY hi (by omega) (yp_s102 hn hq hY hi (by omega) (yp_s146 hn hq hY hi (by omega) (yp_s190 hn hq hY hi (by omega) (yp_s234 hn hq hY hi (by omega) (yp_286 hn hq hY hi (by omega) K)))))))
  · rw [if_neg (by omega), if_pos k] at K
    exact yp_s0 hn hq hY hi (by omega) (yp_o26 hn hq hY hi k (yp_s58 hn hq hY hi (by omega) (yp_s102 hn hq hY hi (by omega) (yp_s146 hn hq hY hi (by omega) (yp_s190 hn hq hY hi (by omega) (yp_s234 hn hq hY hi (by omega) (yp_286 hn hq hY hi (by omega) K)))))))
  · rw [if_neg (by omega), if_neg (by omega), k] at K
    exact yp_s0 hn hq hY hi (by omega) (yp_s26 hn hq hY hi (by omega) (yp_o58 hn hq hY hi k (yp_s102 hn hq hY hi (by omega) (yp_s146 hn hq hY hi (by omega) (yp_s190 hn hq hY hi (by omega) (yp_s234 hn hq hY hi (by omega) (yp_286 hn hq hY hi (by omega) K)))))))
  · rw [if_neg (by omega), if_neg (by omega), k] at K
    exact yp_s0 hn hq hY hi (by omega) (yp_s26 hn hq hY hi (by omega) (yp_s58 hn hq hY hi (by omega) (yp_o102 hn hq hY hi k (yp_s146 hn hq hY hi (by omega) (yp_s190 hn hq hY hi (by omega) (yp_s234 hn hq hY hi (by omega) (yp_286 hn hq hY hi (by omega) K)))))))
  · rw [if_neg (by omega), if_neg (by omega), k] at K
    exact yp_s0 hn hq hY hi (by omega) (yp_s26 hn hq hY hi (by omega) (yp_s58 hn hq hY hi (by omega) (yp_s102 hn hq hY hi (by omega) (yp_o146 hn hq hY hi k (yp_s190 hn hq hY hi (by omega) (yp_s234 hn hq hY hi (by omega) (yp_286 hn hq hY hi (by omega) K)))))))
  · rw [if_neg (by omega), if_neg (by omega), k] at K
    exact yp_s0 hn hq hY hi (by omega) (yp_s26 hn hq hY hi (by omega) (yp_s58 hn hq hY hi (by omega) (yp_s102 hn hq hY hi (by omega) (yp_s146 hn hq hY hi (by omega) (yp_o190 hn hq hY hi k (yp_s234 hn hq hY hi (by omega) (yp_286 hn hq hY hi (by omega) K)))))))
  · rw [if_neg (by omega), if_neg (by omega), k] at K
    exact yp_s0 hn hq hY hi (by omega) (yp_s26 hn hq hY hi (by omega) (yp_s58 hn hq hY hi (by omega) (yp_s102 hn hq hY hi (by omega) (yp_s146 hn hq hY hi (by omega) (yp_s190 hn hq hY hi (by omega) (yp_o234 hn hq hY hi k (yp_286 hn hq hY hi (by omega) K)))))))
theorem yp_print {c : Nat} (hn : n ≤ 40) (hq : qs_ok Q i) (hY : qs_Y Q n b_kind b_a b_b b_c) (hi : i < n) (k : qs_K Q i = 7) (hc : c < 90000) (K : post (g_n, nI (c + 1), b_kind, b_a, b_b, b_c, b_var, vm_pr b_out c (b_var (qs_A Q i)), b_left)) : wpY_plain post (g_n, nI c, b_kind, b_a, b_b, b_c, b_var, b_out, b_left) (nI i) :=
  yp_s0 hn hq hY hi (by omega) (yp_s26 hn hq hY hi (by omega) (yp_s58 hn hq hY hi (by omega) (yp_s102 hn hq hY hi (by omega) (yp_s146 hn hq hY hi (by omega) (yp_s190 hn hq hY hi (by omega) (yp_s234 hn hq hY hi (by omega) (yp_286p hn hq hY hi k hc K)))))))
end
end
section
section
variable {g_n g_pr : Int32} {b_kind b_a b_b b_c b_var b_out b_left : Nat → Int32}
variable {Q : qs_T} {n i : Nat} {post : Int32 → SY → Prop}
theorem yq_no (hn : n ≤ 40) (hq : ∀ i, i < n → qs_ok Q i) (hY : qs_Y Q n b_kind b_a b_b b_c) (hi : i < n) (h : ¬ (qs_K Q i = 8 ∨ qs_K Q i = 10)) (K : wY_pass_17 post (nI i) 0 g_n g_pr b_kind b_a b_b b_c b_var b_out b_left) : wpY_pass post (g_n, g_pr, b_kind, b_a, b_b, b_c, b_var, b_out, b_left) (nI i) := by
  unfold wpY_pass
  dsimp only
  exact yo_opens hn hq hY hi (fun z => absurd z h) (fun _ => br_t rfl K)
theorem yq_yes (hlen : g_n = nI n) (hn : n ≤ 40) (hq : ∀ i, i < n → qs_ok Q i) (hY : qs_Y Q n b_kind b_a b_b b_c) (ho : sk_oks (qs_K Q) n) (hi : i < n) (h : qs_K Q i = 8 ∨ qs_K Q i = 10) {e : Nat} (he : sk_en (qs_K Q) n i e) (K : wY_pass_17 post (nI i) (nI e) g_n g_pr b_kind b_a b_b b_c b_var b_out b_left) : wpY_pass post (g_n, g_pr, b_kind, b_a, b_b, b_c, b_var, b_out, b_left) (nI i) := by
  unfold wpY_pass
  dsimp only
  exact yo_opens hn hq hY hi (fun _ => br_f (by decide) (yo_end hlen hn hq hY ho he K)) (fun z => absurd h z)
-- the four tests ahead of a plain statement
theorem yq_17p (hn : n ≤ 40) (hq : ∀ i, i < n → qs_ok Q i) (hY : qs_Y Q n b_kind b_a b_b b_c) (hi : i < n) (h7 : qs_K Q i ≤ 7) (K : wpY_plain (fun u => match u with | (g_n, g_pr, b_kind, b_a, b_b, b_c, b_var, b_out, b_left) => post (nI i + 1) (g_n, g_pr, b_kind, b_a, b_b, b_c, b_var, b_out, b_left)) (g_n, g_pr, b_kind, b_a, b_b, b_c, b_var, b_out, b_left) (nI i)) : wY_pass_17 post (nI i) 0 g_n g_pr b_kind b_a b_b b_c b_var b_out b_left := by
  have k11 := (hq i hi).1
  have hi40 : vp_in (nI i) 40 := vp_in_nI (by omega) (by omega)
  unfold wY_pass_17
  rw [nI_clamp (by omega), (hY i hi).1]
  exact ⟨hi40, br_f (yo_ne (k := 8) k11 (by omega) (by omega)) ⟨hi40, br_f (yo_ne (k := 10) k11 (by omega) (by omega)) ⟨hi40, br_f (yo_ne (k := 9) k11 (by omega) (by omega)) ⟨hi40, br_f (yo_ne (k := 11) k11 (by omega) (by omega)) K⟩⟩⟩⟩
theorem yq_if (hlen : g_n = nI n) (hn : n ≤ 40) (hq : ∀ i, i < n → qs_ok Q i) (hY : qs_Y Q n b_kind b_a b_b b_c) (ho : sk_oks (qs_K Q) n) (hi : i < n) (h8 : qs_K Q i = 8) {e m1 : Nat} (he : sk_en (qs_K Q) n i e) (h1 : i < m1) (h2 : m1 ≤ e) (hs : sk_st (qs_K Q) m1 = (i, i) :: sk_st (qs_K Q) i) (hk : m1 = e ∨ qs_K Q m1 = 9)
    (Kt : 0 < b_var (qs_A Q i) → post (nI (i + 1)) (g_n, g_pr, b_kind, b_a, b_b, b_c, b_var, b_out, b_left)) (Kf : ¬ 0 < b_var (qs_A Q i) → post (nI (m1 + 1)) (g_n, g_pr, b_kind, b_a, b_b, b_c, b_var, b_out, b_left)) : wpY_pass post (g_n, g_pr, b_kind, b_a, b_b, b_c, b_var, b_out, b_left) (nI i) := by
  have hqi := hq i hi
  have a5 := hqi.2.1 (by omega) (by omega)
  have e2 := he.2.1
  have hi40 : vp_in (nI i) 40 := vp_in_nI (by omega) (by omega)
  obtain ⟨y1, y2, y3, y4, y5⟩ := hY i hi
  refine yq_yes hlen hn hq hY ho hi (Or.inl h8) he ?_
  unfold wY_pass_17
  rw [nI_clamp (by omega), y1, y2 (by omega) (by omega), nI_clamp (n := qs_A Q i) (by omega)]
  refine ⟨hi40, br_t (by rw [h8]; rfl) ?_⟩
  have main : ∀ r : Int32, ((0 ≤ r ∧ r = nI m1) ∨ (¬ 0 ≤ r ∧ m1 = e)) → (vp_in (nI i) 40 ∧ vp_in (nI (qs_A Q i)) 6 ∧ ((b_var (qs_A Q i) ≤ 0 → ((0 ≤ r → post (r + 1) (g_n, g_pr, b_kind, b_a, b_b, b_c, b_var, b_out, b_left)) ∧ (¬ 0 ≤ r → post (nI e + 1) (g_n, g_pr, b_kind, b_a, b_b, b_c, b_var, b_out, b_left)))) ∧ (¬ b_var (qs_A Q i) ≤ 0 → post (nI i + 1) (g_n, g_pr, b_kind, b_a, b_b, b_c, b_var, b_out, b_left)))) := by
    intro r hr
    refine ⟨hi40, vp_in_nI (by omega) (by omega), ?_⟩
    by_cases c : 0 < b_var (qs_A Q i)
    · refine br_f (Int32.not_le.mpr c) ?_
      rw [nI_1]; exact Kt c
    · refine br_t (Int32.not_lt.mp c) ?_
      have kf := Kf c
      rcases hr with ⟨g1, g2⟩ | ⟨g1, g2⟩
      · refine br_t g1 ?_
        rw [g2, nI_1]; exact kf
      · refine br_f g1 ?_
        rw [← g2, nI_1]; exact kf
  refine yo_elseOf hlen hn hq hY ho hi he h1 h2 hs hk (fun z => ?_) (fun z => ?_)
  · exact main (-1) (Or.inr ⟨by decide, z⟩)
  · exact main (nI m1) (Or.inl ⟨nI_pos' (by omega), rfl⟩)
theorem yq_loop (hlen : g_n = nI n) (hn : n ≤ 40) (hq : ∀ i, i < n → qs_ok Q i) (hY : qs_Y Q n b_kind b_a b_b b_c) (ho : sk_oks (qs_K Q) n) (hi : i < n) (h10 : qs_K Q i = 10) {e : Nat} (he : sk_en (qs_K Q) n i e)
    (Kt : qs_A Q i ≠ 0 → post (nI (i + 1)) (g_n, g_pr, b_kind, b_a, b_b, b_c, b_var, b_out, upd b_left i (nI (qs_A Q i)))) (Kf : qs_A Q i = 0 → post (nI (e + 1)) (g_n, g_pr, b_kind, b_a, b_b, b_c, b_var, b_out, upd b_left i 0)) : wpY_pass post (g_n, g_pr, b_kind, b_a, b_b, b_c, b_var, b_out, b_left) (nI i) := by
  have hqi := hq i hi
  have a5 := hqi.2.1 (by omega) (by omega)
  have k11 := hqi.1
  have hi40 : vp_in (nI i) 40 := vp_in_nI (by omega) (by omega)
  obtain ⟨y1, y2, y3, y4, y5⟩ := hY i hi
  refine yq_yes hlen hn hq hY ho hi (Or.inr h10) he ?_
  unfold wY_pass_17
  rw [nI_clamp (by omega), y1, y2 (by omega) (by omega)]
  refine ⟨hi40, br_f (yo_ne (k := 8) k11 (by omega) (by omega)) ⟨hi40, br_t (by rw [h10]; rfl) ⟨hi40, hi40, nm_e ⟨hi40, ?_⟩⟩⟩⟩
  by_cases c : qs_A Q i = 0
  · refine br_t (by rw [c]; rfl) ?_
    rw [nI_1, c]; exact Kf c
  · refine br_f (nI_ne0 (by omega) (by omega)) ?_
    rw [nI_1]; exact Kt c
theorem yq_else (hlen : g_n = nI n) (hn : n ≤ 40) (hq : ∀ i, i < n → qs_ok Q i) (hY : qs_Y Q n b_kind b_a b_b b_c) (ho : sk_oks (qs_K Q) n) (hi : i < n) (h9 : qs_K Q i = 9) {q p m : Nat} {r : List (Nat × Nat)} (hs : sk_st (qs_K Q) i = (q, p) :: r) (he : sk_en (qs_K Q) n q m)
    (K : post (nI (m + 1)) (g_n, g_pr, b_kind, b_a, b_b, b_c, b_var, b_out, b_left)) : wpY_pass post (g_n, g_pr, b_kind, b_a, b_b, b_c, b_var, b_out, b_left) (nI i) := by
  have k11 := (hq i hi).1
  have hi40 : vp_in (nI i) 40 := vp_in_nI (by omega) (by omega)
  refine yq_no hn hq hY hi (by omega) ?_
  unfold wY_pass_17
  rw [nI_clamp (by omega), (hY i hi).1]
  refine ⟨hi40, br_f (yo_ne (k := 8) k11 (by omega) (by omega)) ⟨hi40, br_f (yo_ne (k := 10) k11 (by omega) (by omega)) ⟨hi40, br_t (by rw [h9]; rfl) ?_⟩⟩⟩
  refine yo_opener hn hq hY (by omega) (sk_oks_le ho (by omega)) (fun z => by rw [hs] at z; exact absurd z (by simp)) ?_
  intro q' p' r' hs'
  rw [hs] at hs'
  injection hs' with e1
  injection e1 with e2
  subst e2
  refine yo_end hlen hn hq hY ho he ?_
  rw [nI_1]; exact K
theorem yq_endif (hlen : g_n = nI n) (hn : n ≤ 40) (hq : ∀ i, i < n → qs_ok Q i) (hY : qs_Y Q n b_kind b_a b_b b_c) (ho : sk_oks (qs_K Q) n) (hi : i < n) (h11 : qs_K Q i = 11) {q p : Nat} {r : List (Nat × Nat)} (hs : sk_st (qs_K Q) i = (q, p) :: r) (h8 : qs_K Q q = 8)
    (K : post (nI (i + 1)) (g_n, g_pr, b_kind, b_a, b_b, b_c, b_var, b_out, b_left)) : wpY_pass post (g_n, g_pr, b_kind, b_a, b_b, b_c, b_var, b_out, b_left) (nI i) := by
  have k11 := (hq i hi).1
  have hi40 : vp_in (nI i) 40 := vp_in_nI (by omega) (by omega)
  have qi := (sk_inv i (sk_oks_le ho (by omega)) q p r hs).1
  refine yq_no hn hq hY hi (by omega) ?_
  unfold wY_pass_17
  rw [nI_clamp (by omega), (hY i hi).1]
  refine ⟨hi40, br_f (yo_ne (k := 8) k11 (by omega) (by omega)) ⟨hi40, br_f (yo_ne (k := 10) k11 (by omega) (by omega)) ⟨hi40, br_f (yo_ne (k := 9) k11 (by omega) (by omega)) ⟨hi40, br_t (by rw [h11]; rfl) ?_⟩⟩⟩⟩
  refine yo_opener hn hq hY (by omega) (sk_oks_le ho (by omega)) (fun z => by rw [hs] at z; exact absurd z (by simp)) ?_
  intro q' p' r' hs'
  rw [hs] at hs'
  injection hs' with e1
  injection e1 with e2
  subst e2
  refine ⟨vp_in_nI (by omega) (by omega), ?_⟩
  rw [nI_clamp (by omega), (hY q (by omega)).1]
  refine br_t (by rw [h8]; rfl) ?_
  rw [nI_1]; exact K
theorem yq_endloop (hlen : g_n = nI n) (hn : n ≤ 40) (hq : ∀ i, i < n → qs_ok Q i) (hY : qs_Y Q n b_kind b_a b_b b_c) (ho : sk_oks (qs_K Q) n) (hi : i < n) (h11 : qs_K Q i = 11) {q p : Nat} {r : List (Nat × Nat)} (hs : sk_st (qs_K Q) i = (q, p) :: r) (h10 : qs_K Q q = 10) {l : Nat} (hl : b_left q = nI (l + 1)) (l5 : l < 5)
    (K0 : l = 0 → post (nI (i + 1)) (g_n, g_pr, b_kind, b_a, b_b, b_c, b_var, b_out, upd b_left q (nI l))) (K1 : 0 < l → post (nI (q + 1)) (g_n, g_pr, b_kind, b_a, b_b, b_c, b_var, b_out, upd b_left q (nI l))) : wpY_pass post (g_n, g_pr, b_kind, b_a, b_b, b_c, b_var, b_out, b_left) (nI i) := by
  have k11 := (hq i hi).1
  have hi40 : vp_in (nI i) 40 := vp_in_nI (by omega) (by omega)
  have qi := (sk_inv i (sk_oks_le ho (by omega)) q p r hs).1
  have kq := (hq q (by omega)).1
  refine yq_no hn hq hY hi (by omega) ?_
  unfold wY_pass_17
  rw [nI_clamp (by omega), (hY i hi).1]
  refine ⟨hi40, br_f (yo_ne (k := 8) k11 (by omega) (by omega)) ⟨hi40, br_f (yo_ne (k := 10) k11 (by omega) (by omega)) ⟨hi40, br_f (yo_ne (k := 9) k11 (by omega) (by omega)) ⟨hi40, br_t (by rw [h11]; rfl) ?_⟩⟩⟩⟩
  refine yo_opener hn hq hY (by omega) (sk_oks_le ho (by omega)) (fun z => by rw [hs] at z; exact absurd z (by simp)) ?_
  intro q' p' r' hs'
  rw [hs] at hs'
  injection hs' with e1
  injection e1 with e2
  subst e2
  have hq40 : vp_in (nI q) 40 := vp_in_nI (by omega) (by omega)
  refine ⟨hq40, ?_⟩
  rw [nI_clamp (by omega), (hY q (by omega)).1, hl, nI_pred]
  refine br_f (yo_ne (k := 8) kq (by omega) (by omega)) ⟨hq40, hq40, nm_e ⟨hq40, ?_⟩⟩
  rw [pk_us]
  by_cases c : l = 0
  · refine br_t (by rw [c]; decide) ?_
    rw [nI_1]; exact K0 c
  · refine br_f (nI_nle (by omega) (by omega)) ?_
    rw [nI_1]; exact K1 (by omega)
-- the run's loop as a predicate of (turn, place, variables, left, printed, output)
def yr_Z (post : Int32 → SY → Prop) (g_n : Int32) (b_kind b_a b_b b_c : Nat → Int32) (t i : Nat) (b_var b_left : Nat → Int32) (c : Nat) (b_out : Nat → Int32) : Prop :=
  ∀ m, 5000 - t < m → wY_run_19 post m (nI i) (nI t) g_n (nI c) b_kind b_a b_b b_c b_var b_out b_left
theorem yr_go {t c : Nat} (hlen : g_n = nI n) (hn : n ≤ 40) (ht : t < 5000) (hi : i < n)
    (H : ∀ m, 5000 - (t + 1) < m → wpY_pass (fun r u => match u with | (g_n, g_pr, b_kind, b_a, b_b, b_c, b_var, b_out, b_left) => ∀ y : Int32, y = nI t + 1 → wY_run_19 post m r y g_n g_pr b_kind b_a b_b b_c b_var b_out b_left) (g_n, nI c, b_kind, b_a, b_b, b_c, b_var, b_out, b_left) (nI i)) : yr_Z post g_n b_kind b_a b_b b_c t i b_var b_left c b_out := by
  intro m hm
  obtain ⟨m, rfl⟩ : ∃ m', m = m' + 1 := ⟨m - 1, by omega⟩
  exact br_f (nI_ge (b := 5000) ht (by decide)) (br_f (by rw [hlen]; exact nI_ge hi (by omega)) (H m (by omega)))
theorem yr_R (hlen : g_n = nI n) (hn : n ≤ 40) (hq : ∀ i, i < n → qs_ok Q i) (hY : qs_Y Q n b_kind b_a b_b b_c) (hs : sk_snd (qs_K Q) n) : ys_R Q n (yr_Z post g_n b_kind b_a b_b b_c) := by
  refine ⟨?_, ?_, ?_, ?_, ?_, ?_, ?_, ?_, ?_⟩
  · intro t i va lf c o ht hi h6 H
    refine yr_go hlen hn ht hi (fun m hm => yq_no hn hq hY hi (by omega) (yq_17p hn hq hY hi (by omega) (yp_plain hn (hq i hi) hY hi h6 ?_)))
    dsimp only
    intro y ey
    rw [ey, nI_1, nI_1]; exact H m hm
  · intro t i va lf c o ht hi h7 hc H
    refine yr_go hlen hn ht hi (fun m hm => yq_no hn hq hY hi (by omega) (yq_17p hn hq hY hi (by omega) (yp_print hn (hq i hi) hY hi h7 hc ?_)))
    dsimp only
    intro y ey
    rw [ey, nI_1, nI_1]; exact H m hm
  · intro t i va lf c o ht hi h8 hp H
    obtain ⟨e, he, m1, b1, b2, b3, b4⟩ := sk_ene hs hi (Or.inl h8)
    refine yr_go hlen hn ht hi (fun m hm => yq_if hlen hn hq hY hs.1 hi h8 he b1 b2 b3 (by omega) (fun _ => ?_) (fun z => absurd hp z))
    intro y ey
    rw [ey, nI_1]; exact H m hm
  · intro t i va lf c o m1 ht hi h8 hp h1 h2 h3 h4 H
    obtain ⟨e, he, m2, b1, b2, b3, b4⟩ := sk_ene hs hi (Or.inl h8)
    have em : m2 = m1 := by
      have n1 : sk_nx (qs_K Q) i m1 := ⟨h4, i, _, h3⟩
      have n2 : sk_nx (qs_K Q) i m2 := ⟨by omega, i, _, b3⟩
      by_cases c1 : m1 < m2
      · exact absurd rfl (sk_gone n1 m2 c1 (i, i) (by rw [b3]; exact List.mem_cons_self))
      · by_cases c2 : m2 < m1
        · exact absurd rfl (sk_gone n2 m1 c2 (i, i) (by rw [h3]; exact List.mem_cons_self))
        · omega
    subst em
    refine yr_go hlen hn ht hi (fun m hm => yq_if hlen hn hq hY hs.1 hi h8 he b1 b2 b3 (by omega) (fun z => absurd z hp) (fun _ => ?_))
    intro y ey
    rw [ey, nI_1]; exact H m hm
  · intro t i va lf c o q r e ht hi h9 hst he H
    refine yr_go hlen hn ht hi (fun m hm => yq_else hlen hn hq hY hs.1 hi h9 hst he ?_)
    intro y ey
    rw [ey, nI_1]; exact H m hm
  · intro t i va lf c o e ht hi h10 a0 he H
    refine yr_go hlen hn ht hi (fun m hm => yq_loop hlen hn hq hY hs.1 hi h10 he (fun z => absurd a0 z) (fun _ => ?_))
    intro y ey
    rw [ey, nI_1]; exact H m hm
  · intro t i va lf c o ht hi h10 a0 H
    have he := sk_e_en hs hi (Or.inr h10)
    refine yr_go hlen hn ht hi (fun m hm => yq_loop hlen hn hq hY hs.1 hi h10 he (fun _ => ?_) (fun z => absurd z a0))
    intro y ey
    rw [ey, nI_1]; exact H m hm
  · intro t i va lf c o q p r ht hi h11 hst h8 H
    refine yr_go hlen hn ht hi (fun m hm => yq_endif hlen hn hq hY hs.1 hi h11 hst h8 ?_)
    intro y ey
    rw [ey, nI_1]; exact H m hm
  · intro t i va lf c o q p r l ht hi h11 hst h10 hl l5 H0 H1
    refine yr_go hlen hn ht hi (fun m hm => yq_endloop hlen hn hq hY hs.1 hi h11 hst h10 hl l5 (fun z => ?_) (fun z => ?_))
    · intro y ey
      rw [ey, nI_1]; exact H0 z m hm
    · intro y ey
      rw [ey, nI_1]; exact H1 z m hm
theorem yr_run {u' c' : Nat} {va' lf' o' : Nat → Int32} (hlen : g_n = nI n) (hn : n ≤ 40) (hq : ∀ i, i < n → qs_ok Q i) (hY : qs_Y Q n b_kind b_a b_b b_c) (hs : sk_snd (qs_K Q) n) (hu : u' ≤ 5000)
    (G : ∀ Z, ys_R Q n Z → Z u' n va' lf' c' o' → Z 0 0 b_var b_left 0 b_out) (K : post (nI c') (g_n, nI c', b_kind, b_a, b_b, b_c, va', o', lf')) : wpY_run post (g_n, g_pr, b_kind, b_a, b_b, b_c, b_var, b_out, b_left) := by
  unfold wpY_run
  dsimp only
  refine yo_sound hlen hn hq hY (fun _ => br_f (by decide) ⟨5001, ?_⟩) (fun z => absurd hs z)
  refine G (yr_Z post g_n b_kind b_a b_b b_c) (yr_R hlen hn hq hY hs) ?_ 5001 (by omega)
  intro m hm
  obtain ⟨m, rfl⟩ : ∃ m', m = m' + 1 := ⟨m - 1, by omega⟩
  by_cases c : u' = 5000
  · exact br_t (by rw [c]; decide) K
  · exact br_f (nI_ge (b := 5000) (by omega) (by decide)) (br_t (by rw [hlen]; exact nI_le (Nat.le_refl _) (by omega)) K)
end
end
section
-- what X's compiled state holds
def rl_C (Q : qs_T) (n : Nat) (cp so ce : Int32) (op od : Nat → Int32) : Prop :=
  cp = 0 ∨ (cp = 1 ∧ ((so = 0 ∧ ¬ sk_snd (qs_K Q) n) ∨ (so = 1 ∧ sk_snd (qs_K Q) n ∧ ∃ cl, re_C cl ce op od ∧ cg_code Q n cl)))
def rl_R (f_length f_compiled f_isSound f_codeEnd f_printedCount : Int32) (a_kind a_first a_second a_third a_variables a_operation a_operand a_printedValues : Nat → Int32) (g_n g_pr : Int32) (b_kind b_a b_b b_c b_var b_out : Nat → Int32) : Prop :=
  ∃ Q n, n ≤ 40 ∧ f_length = nI n ∧ g_n = nI n ∧ (∀ i, i < n → qs_ok Q i) ∧ qs_X Q n a_kind a_first a_second a_third ∧ qs_Y Q n b_kind b_a b_b b_c ∧ g_pr = f_printedCount ∧ b_out = a_printedValues ∧ (∀ v, v < 6 → a_variables v = b_var v) ∧ rl_C Q n f_compiled f_isSound f_codeEnd a_operation a_operand
def ad_v (x : Int32) : Prop := ∃ a, a ≤ 5 ∧ x = nI a
theorem ad_x {x : Int32} {A B : Prop} (f : ad_v x → A) (g : ¬ ad_v x → B) : (x < 0 → B) ∧ (¬ x < 0 → ((x ≤ 5 → A) ∧ (¬ x ≤ 5 → B))) := by
  by_cases c : x < 0
  · refine br_t c (g ?_)
    rintro ⟨a, ha, e⟩
    rw [e] at c
    exact nI_pos (by omega) c
  · refine br_f c ?_
    by_cases d : x ≤ 5
    · exact br_t d (f (nI_of2 (n := 5) (by decide) c d))
    · refine br_f d (g ?_)
      rintro ⟨a, ha, e⟩
      rw [e] at d
      exact d (nI_le (b := 5) ha (by decide))
theorem ad_y {x : Int32} {A B : Prop} (f : ad_v x → A) (g : ¬ ad_v x → B) : (x < 0 → B) ∧ (¬ x < 0 → ((5 < x → B) ∧ (¬ 5 < x → A))) := by
  have := ad_x f g
  refine ⟨this.1, fun h => ⟨fun h2 => (this.2 h).2 (Int32.not_le.mpr h2), fun h2 => (this.2 h).1 (Int32.not_lt.mp h2)⟩⟩
-- what add accepts
def ad_F (k : Nat) (x2 x3 x4 : Int32) : Prop := (k ≠ 9 → k ≠ 11 → ad_v x2) ∧ (1 ≤ k → k ≤ 6 → ad_v x3) ∧ (2 ≤ k → k ≤ 6 → ad_v x4)
section
variable {f_length f_compiled f_isSound f_codeEnd f_layoutDepth f_openLoops f_openBlocks f_depth f_printedCount : Int32} {a_kind a_first a_second a_third a_variables a_operation a_operand a_layout a_blockKind a_blockPatch a_stack a_printedValues : Nat → Int32}
variable {n k : Nat} {x2 x3 x4 : Int32} {post : Int32 → SX → Prop}
theorem ad_93 (hn : n < 40) (hk : k ≤ 11) (hlen : f_length = nI n) (K : post (nI (n + 1)) (nI (n + 1), 0, f_isSound, f_codeEnd, f_layoutDepth, f_openLoops, f_openBlocks, f_depth, f_printedCount, upd a_kind n (nI k), upd a_first n (if k = 0 then x3 else x2), upd a_second n (if k = 0 then x2 else x3).toInt8.toInt32, upd a_third n x4.toInt8.toInt32, a_variables, a_operation, a_operand, a_layout, a_blockKind, a_blockPatch, a_stack, a_printedValues)) : wX_add_93 post (nI k) x2 x3 x4 f_length f_compiled f_isSound f_codeEnd f_layoutDepth f_openLoops f_openBlocks f_depth f_printedCount a_kind a_first a_second a_third a_variables a_operation a_operand a_layout a_blockKind a_blockPatch a_stack a_printedValues := by
  subst hlen
  have hi : vp_in (nI n) 40 := vp_in_nI hn (by omega)
  unfold wX_add_93
  rw [nI_clamp (by omega), xc_nb (by omega)]
  refine ⟨hi, nm_e ?_⟩
  by_cases c : k = 0
  · rw [if_pos c, if_pos c] at K
    refine br_t (by rw [c]; rfl) ?_
    unfold wX_add_121
    rw [nI_clamp (by omega)]
    refine ⟨hi, nm_e (br_t (by rw [c]; rfl) ?_)⟩
    unfold wX_add_139
    rw [nI_clamp (by omega), pk_vb, pk_vb]
    exact ⟨hi, nm_e ⟨hi, nm_e (nm_r (nI_1 _) K)⟩⟩
  · rw [if_neg c, if_neg c] at K
    refine br_f (nI_ne0 (by omega) (by omega)) ?_
    unfold wX_add_121
    rw [nI_clamp (by omega)]
    refine ⟨hi, nm_e (br_f (nI_ne0 (by omega) (by omega)) ?_)⟩
    unfold wX_add_139
    rw [nI_clamp (by omega), pk_vb, pk_vb]
    exact ⟨hi, nm_e ⟨hi, nm_e (nm_r (nI_1 _) K)⟩⟩
theorem ad_69 (hk : k ≤ 11) (K1 : (2 ≤ k → k ≤ 6 → ad_v x4) → wX_add_93 post (nI k) x2 x3 x4 f_length f_compiled f_isSound f_codeEnd f_layoutDepth f_openLoops f_openBlocks f_depth f_printedCount a_kind a_first a_second a_third a_variables a_operation a_operand a_layout a_blockKind a_blockPatch a_stack a_printedValues) (K0 : ¬ (2 ≤ k → k ≤ 6 → ad_v x4) → post (-1) (f_length, f_compiled, f_isSound, f_codeEnd, f_layoutDepth, f_openLoops, f_openBlocks, f_depth, f_printedCount, a_kind, a_first, a_second, a_third, a_variables, a_operation, a_operand, a_layout, a_blockKind, a_blockPatch, a_stack, a_printedValues)) : wX_add_69 post (nI k) x2 x3 x4 f_length f_compiled f_isSound f_codeEnd f_layoutDepth f_openLoops f_openBlocks f_depth f_printedCount a_kind a_first a_second a_third a_variables a_operation a_operand a_layout a_blockKind a_blockPatch a_stack a_printedValues := by
  unfold wX_add_69
  by_cases c : k < 2
  · exact br_t (nI_lt (b := 2) c (by decide)) (K1 (fun z => by omega))
  · refine br_f (nI_nlt (b := 2) (by omega) (by omega)) ?_
    by_cases d : 6 < k
    · exact br_t (nI_lt (a := 6) d (by omega)) (K1 (fun _ z => by omega))
    · exact br_f (nI_nlt (a := 6) (by omega) (by decide)) (ad_x (fun h => K1 (fun _ _ => h)) (fun h => K0 (fun z => h (z (by omega) (by omega)))))
theorem ad_47 (hk : k ≤ 11) (K1 : (1 ≤ k → k ≤ 6 → ad_v x3) → wX_add_69 post (nI k) x2 x3 x4 f_length f_compiled f_isSound f_codeEnd f_layoutDepth f_openLoops f_openBlocks f_depth f_printedCount a_kind a_first a_second a_third a_variables a_operation a_operand a_layout a_blockKind a_blockPatch a_stack a_printedValues) (K0 : ¬ (1 ≤ k → k ≤ 6 → ad_v x3) → post (-1) (f_length, f_compiled, f_isSound, f_codeEnd, f_layoutDepth, f_openLoops, f_openBlocks, f_depth, f_printedCount, a_kind, a_first, a_second, a_third, a_variables, a_operation, a_operand, a_layout, a_blockKind, a_blockPatch, a_stack, a_printedValues)) : wX_add_47 post (nI k) x2 x3 x4 f_length f_compiled f_isSound f_codeEnd f_layoutDepth f_openLoops f_openBlocks f_depth f_printedCount a_kind a_first a_second a_third a_variables a_operation a_operand a_layout a_blockKind a_blockPatch a_stack a_printedValues := by
  unfold wX_add_47
  by_cases c : k < 1
  · exact br_t (nI_lt (b := 1) c (by decide)) (K1 (fun z => by omega))
  · refine br_f (nI_nlt (b := 1) (by omega) (by omega)) ?_
    by_cases d : 6 < k
    · exact br_t (nI_lt (a := 6) d (by omega)) (K1 (fun _ z => by omega))
    · exact br_f (nI_nlt (a := 6) (by omega) (by decide)) (ad_x (fun h => K1 (fun _ _ => h)) (fun h => K0 (fun z => h (z (by omega) (by omega)))))
theorem ad_X (hn : n < 40) (hk : k ≤ 11) (hlen : f_length = nI n) (K1 : ad_F k x2 x3 x4 → post (nI (n + 1)) (nI (n + 1), 0, f_isSound, f_codeEnd, f_layoutDepth, f_openLoops, f_openBlocks, f_depth, f_printedCount, upd a_kind n (nI k), upd a_first n (if k = 0 then x3 else x2), upd a_second n (if k = 0 then x2 else x3).toInt8.toInt32, upd a_third n x4.toInt8.toInt32, a_variables, a_operation, a_operand, a_layout, a_blockKind, a_blockPatch, a_stack, a_printedValues)) (K0 : ¬ ad_F k x2 x3 x4 → post (-1) (f_length, f_compiled, f_isSound, f_codeEnd, f_layoutDepth, f_openLoops, f_openBlocks, f_depth, f_printedCount, a_kind, a_first, a_second, a_third, a_variables, a_operation, a_operand, a_layout, a_blockKind, a_blockPatch, a_stack, a_printedValues)) : wpX_add post (f_length, f_compiled, f_isSound, f_codeEnd, f_layoutDepth, f_openLoops, f_openBlocks, f_depth, f_printedCount, a_kind, a_first, a_second, a_third, a_variables, a_operation, a_operand, a_layout, a_blockKind, a_blockPatch, a_stack, a_printedValues) (nI k) x2 x3 x4 := by
  have go : (k ≠ 9 → k ≠ 11 → ad_v x2) → wX_add_47 post (nI k) x2 x3 x4 f_length f_compiled f_isSound f_codeEnd f_layoutDepth f_openLoops f_openBlocks f_depth f_printedCount a_kind a_first a_second a_third a_variables a_operation a_operand a_layout a_blockKind a_blockPatch a_stack a_printedValues := fun h1 =>
    ad_47 hk (fun h2 => ad_69 hk (fun h3 => ad_93 hn hk hlen (K1 ⟨h1, h2, h3⟩)) (fun h3 => K0 (fun z => h3 z.2.2))) (fun h2 => K0 (fun z => h2 z.2.1))
  unfold wpX_add
  dsimp only
  refine br_t (by rw [hlen]; exact nI_lt (b := 40) hn (by decide)) (br_f (nI_pos (by omega)) (br_t (nI_le (b := 11) hk (by decide)) ?_))
  by_cases c9 : k = 9
  · exact br_t (by rw [c9]; rfl) (go (fun z => absurd c9 z))
  · refine br_f (yo_ne (k := 9) hk (by omega) c9) ?_
    by_cases c11 : k = 11
    · exact br_t (by rw [c11]; rfl) (go (fun _ z => absurd c11 z))
    · exact br_f (yo_ne (k := 11) hk (by omega) c11) (ad_x (fun h => go (fun _ _ => h)) (fun h => K0 (fun z => h (z.1 c9 c11))))
end
section
variable {g_n g_pr : Int32} {b_kind b_a b_b b_c b_var b_out b_left : Nat → Int32}
variable {n k : Nat} {x2 x3 x4 : Int32}
theorem ad_isv {post : Int32 → Prop} {x : Int32} (K1 : ad_v x → post 1) (K0 : ¬ ad_v x → post 0) : wpY_isVariable post (g_n, g_pr, b_kind, b_a, b_b, b_c, b_var, b_out, b_left) x := by
  unfold wpY_isVariable
  dsimp only
  exact ad_y K1 K0
theorem ad_fits {post : Int32 → Prop} (hk : k ≤ 11) (K1 : ad_F k x2 x3 x4 → post 1) (K0 : ¬ ad_F k x2 x3 x4 → post 0) : wpY_fits post (g_n, g_pr, b_kind, b_a, b_b, b_c, b_var, b_out, b_left) (nI k) x2 x3 x4 := by
  unfold wpY_fits
  dsimp only
  refine br_f (nI_pos (by omega)) (br_t (nI_le (b := 11) hk (by decide)) ?_)
  by_cases c9 : k = 9
  · exact br_t (by rw [c9]; rfl) (K1 ⟨fun z => absurd c9 z, fun _ z => by omega, fun _ z => by omega⟩)
  · refine br_f (yo_ne (k := 9) hk (by omega) c9) ?_
    by_cases c11 : k = 11
    · exact br_t (by rw [c11]; rfl) (K1 ⟨fun _ z => absurd c11 z, fun _ z => by omega, fun _ z => by omega⟩)
    · refine br_f (yo_ne (k := 11) hk (by omega) c11) ?_
      refine ad_isv (fun h1 => br_f (by decide) ?_) (fun h1 => br_t rfl (K0 (fun z => h1 (z.1 c9 c11))))
      by_cases c1 : k = 1
      · refine br_t (by rw [c1]; rfl) ?_
        exact ad_isv (fun h2 => ⟨rfl, K1 ⟨fun _ _ => h1, fun _ _ => h2, fun z => by omega⟩⟩) (fun h2 => ⟨rfl, K0 (fun z => h2 (z.2.1 (by omega) (by omega)))⟩)
      · refine br_f (yo_ne (k := 1) hk (by omega) c1) ?_
        by_cases c2 : k < 2
        · exact br_t (nI_lt (b := 2) c2 (by decide)) (K1 ⟨fun _ _ => h1, fun z => by omega, fun z => by omega⟩)
        · refine br_f (nI_nlt (b := 2) (by omega) (by omega)) ?_
          by_cases c6 : 6 < k
          · exact br_t (nI_lt (a := 6) c6 (by omega)) (K1 ⟨fun _ _ => h1, fun _ z => by omega, fun _ z => by omega⟩)
          · refine br_f (nI_nlt (a := 6) (by omega) (by decide)) ?_
            refine ad_isv (fun h2 => br_f (by decide) ?_) (fun h2 => br_t rfl (K0 (fun z => h2 (z.2.1 (by omega) (by omega)))))
            exact ad_isv (fun h3 => br_f (by decide) (K1 ⟨fun _ _ => h1, fun _ _ => h2, fun _ _ => h3⟩)) (fun h3 => br_t rfl (K0 (fun z => h3 (z.2.2 (by omega) (by omega)))))
theorem ad_Y {post : Int32 → SY → Prop} (hn : n < 40) (hk : k ≤ 11) (hlen : g_n = nI n) (K1 : ad_F k x2 x3 x4 → post (nI (n + 1)) (nI (n + 1), g_pr, upd b_kind n (nI k), upd b_a n x2, upd b_b n x3, upd b_c n x4, b_var, b_out, b_left)) (K0 : ¬ ad_F k x2 x3 x4 → post (-1) (g_n, g_pr, b_kind, b_a, b_b, b_c, b_var, b_out, b_left)) : wpY_add post (g_n, g_pr, b_kind, b_a, b_b, b_c, b_var, b_out, b_left) (nI k) x2 x3 x4 := by
  subst hlen
  have hi : vp_in (nI n) 40 := vp_in_nI hn (by omega)
  unfold wpY_add
  dsimp only
  rw [nI_clamp (by omega)]
  refine br_f (fun z => ?_) ?_
  · have := (nI_eq (b := 40) (by omega) (by omega)).mp z; omega
  · refine ad_fits hk (fun h => br_f (by decide) ?_) (fun h => br_t rfl (K0 h))
    exact ⟨hi, nm_e ⟨hi, nm_e ⟨hi, nm_e ⟨hi, nm_e (nm_r (nI_1 _) (K1 h))⟩⟩⟩⟩
end
-- the source with one statement more
def ad_Q (Q : qs_T) (n k : Nat) (x2 x3 x4 : Int32) : qs_T := fun j => if j = n then (k, x2.toNatClampNeg, x3.toNatClampNeg, x4.toNatClampNeg, x3) else Q j
theorem ad_Qn {Q : qs_T} {n k : Nat} {x2 x3 x4 : Int32} : ad_Q Q n k x2 x3 x4 n = (k, x2.toNatClampNeg, x3.toNatClampNeg, x4.toNatClampNeg, x3) := if_pos rfl
theorem ad_Qo {Q : qs_T} {n k j : Nat} {x2 x3 x4 : Int32} (h : j ≠ n) : ad_Q Q n k x2 x3 x4 j = Q j := if_neg h
theorem ad_cl {x : Int32} (h : ad_v x) : x.toNatClampNeg ≤ 5 ∧ x = nI x.toNatClampNeg ∧ x.toInt8.toInt32 = nI x.toNatClampNeg := by
  obtain ⟨a, ha, e⟩ := h
  have e2 : x.toNatClampNeg = a := by rw [e, nI_clamp (by omega)]
  rw [e2]
  exact ⟨ha, e, by rw [e]; exact xc_b8 a (by omega)⟩
section
variable {Q : qs_T} {n k : Nat} {x2 x3 x4 : Int32} {ki fi se th : Nat → Int32}
theorem ad_ok (hk : k ≤ 11) (hF : ad_F k x2 x3 x4) (hq : ∀ i, i < n → qs_ok Q i) : ∀ i, i < n + 1 → qs_ok (ad_Q Q n k x2 x3 x4) i := by
  intro i hi
  by_cases c : i = n
  · subst c
    unfold qs_ok qs_K qs_A qs_B qs_C
    rw [ad_Qn]
    exact ⟨hk, fun a b => (ad_cl (hF.1 a b)).1, fun a b => (ad_cl (hF.2.1 a b)).1, fun a b => (ad_cl (hF.2.2 a b)).1⟩
  · have := hq i (by omega)
    unfold qs_ok qs_K qs_A qs_B qs_C at this ⊢
    rw [ad_Qo c]; exact this
theorem ad_qX (hk : k ≤ 11) (hF : ad_F k x2 x3 x4) (hX : qs_X Q n ki fi se th) : qs_X (ad_Q Q n k x2 x3 x4) (n + 1) (upd ki n (nI k)) (upd fi n (if k = 0 then x3 else x2)) (upd se n (if k = 0 then x2 else x3).toInt8.toInt32) (upd th n x4.toInt8.toInt32) := by
  intro j hj
  by_cases c : j = n
  · subst c
    unfold qs_K qs_A qs_B qs_C qs_V
    rw [ad_Qn, pk_us, pk_us, pk_us, pk_us]
    refine ⟨rfl, fun a => ?_, fun a b d => ?_, fun a b => ?_, fun a b => ?_⟩
    · dsimp only at a
      rw [if_pos a, if_pos a]
      exact ⟨(ad_cl (hF.1 (by omega) (by omega))).2.2, rfl⟩
    · dsimp only at a b d
      rw [if_neg (by omega)]
      exact (ad_cl (hF.1 b d)).2.1
    · dsimp only at a b
      rw [if_neg (by omega)]
      exact (ad_cl (hF.2.1 a b)).2.2
    · exact (ad_cl (hF.2.2 a b)).2.2
  · have := hX j (by omega)
    unfold qs_K qs_A qs_B qs_C qs_V at this ⊢
    rw [ad_Qo c, pk_un c, pk_un c, pk_un c, pk_un c]
    exact this
theorem ad_qY (hk : k ≤ 11) (hF : ad_F k x2 x3 x4) (hY : qs_Y Q n ki fi se th) : qs_Y (ad_Q Q n k x2 x3 x4) (n + 1) (upd ki n (nI k)) (upd fi n x2) (upd se n x3) (upd th n x4) := by
  intro j hj
  by_cases c : j = n
  · subst c
    unfold qs_K qs_A qs_B qs_C qs_V
    rw [ad_Qn, pk_us, pk_us, pk_us, pk_us]
    exact ⟨rfl, fun a b => (ad_cl (hF.1 a b)).2.1, fun _ => rfl, fun a b => (ad_cl (hF.2.1 a b)).2.1, fun a b => (ad_cl (hF.2.2 a b)).2.1⟩
  · have := hY j (by omega)
    unfold qs_K qs_A qs_B qs_C qs_V at this ⊢
    rw [ad_Qo c, pk_un c, pk_un c, pk_un c, pk_un c]
    exact this
end
section
variable {f_length f_compiled f_isSound f_codeEnd f_layoutDepth f_openLoops f_openBlocks f_depth f_printedCount : Int32} {a_kind a_first a_second a_third a_variables a_operation a_operand a_layout a_blockKind a_blockPatch a_stack a_printedValues : Nat → Int32}
variable {Q : qs_T} {n : Nat}
theorem rl_comp {post : SX → Prop} (hlen : f_length = nI n) (hn : n ≤ 40) (hq : ∀ i, i < n → qs_ok Q i) (hX : qs_X Q n a_kind a_first a_second a_third) (hC : rl_C Q n f_compiled f_isSound f_codeEnd a_operation a_operand)
    (K0 : ¬ sk_snd (qs_K Q) n → ∀ f_codeEnd f_layoutDepth f_openLoops f_openBlocks a_operation a_operand a_layout a_blockKind a_blockPatch, post (f_length, 1, 0, f_codeEnd, f_layoutDepth, f_openLoops, f_openBlocks, f_depth, f_printedCount, a_kind, a_first, a_second, a_third, a_variables, a_operation, a_operand, a_layout, a_blockKind, a_blockPatch, a_stack, a_printedValues))
    (K1 : sk_snd (qs_K Q) n → ∀ cl f_codeEnd f_layoutDepth f_openLoops f_openBlocks a_operation a_operand a_layout a_blockKind a_blockPatch, re_C cl f_codeEnd a_operation a_operand → cg_code Q n cl → post (f_length, 1, 1, f_codeEnd, f_layoutDepth, f_openLoops, f_openBlocks, f_depth, f_printedCount, a_kind, a_first, a_second, a_third, a_variables, a_operation, a_operand, a_layout, a_blockKind, a_blockPatch, a_stack, a_printedValues)) : wpX_compile post (f_length, f_compiled, f_isSound, f_codeEnd, f_layoutDepth, f_openLoops, f_openBlocks, f_depth, f_printedCount, a_kind, a_first, a_second, a_third, a_variables, a_operation, a_operand, a_layout, a_blockKind, a_blockPatch, a_stack, a_printedValues) := by
  rcases hC with h | ⟨h1, h2⟩
  · exact xi_compile hlen hn hq hX h (fun hs a_blockKind => K0 hs _ _ _ _ _ _ _ _ _) K1
  · unfold wpX_compile
    dsimp only
    subst h1
    refine br_f (by decide) ?_
    rcases h2 with ⟨h3, h4⟩ | ⟨h3, h4, cl, h5, h6⟩
    · subst h3; exact K0 h4 _ _ _ _ _ _ _ _ _
    · subst h3; exact K1 h4 cl _ _ _ _ _ _ _ _ _ h5 h6
theorem rl_x17 {post : SX → Prop} (K : ∀ a_variables, (∀ v, v < 6 → a_variables v = 0) → post (f_length, f_compiled, f_isSound, f_codeEnd, f_layoutDepth, f_openLoops, f_openBlocks, f_depth, f_printedCount, a_kind, a_first, a_second, a_third, a_variables, a_operation, a_operand, a_layout, a_blockKind, a_blockPatch, a_stack, a_printedValues)) : ∀ k j a_variables, j + k = 6 → (∀ v, v < j → a_variables v = 0) → ∀ n, k < n → wX_clear_17 post f_length f_compiled f_isSound f_codeEnd f_layoutDepth f_openLoops f_openBlocks f_depth f_printedCount n (nI j) a_kind a_first a_second a_third a_variables a_operation a_operand a_layout a_blockKind a_blockPatch a_stack a_printedValues := by
  intro k
  induction k with
  | zero =>
    intro j a_variables hj h n hn
    obtain ⟨n, rfl⟩ : ∃ n', n = n' + 1 := ⟨n - 1, by omega⟩
    have e : j = 6 := by omega
    subst e
    exact br_t (by decide) (K _ h)
  | succ k ih =>
    intro j a_variables hj h n hn
    obtain ⟨n, rfl⟩ : ∃ n', n = n' + 1 := ⟨n - 1, by omega⟩
    unfold wX_clear_17
    refine br_f (nI_ge (b := 6) (by omega) (by decide)) ⟨vp_in_nI (by omega) (by omega), nm_e (nm_r (nI_1 _) ?_)⟩
    rw [nI_clamp (by omega)]
    refine ih (j + 1) _ (by omega) (fun v hv => ?_) n (by omega)
    by_cases c : v = j
    · subst c; rw [pk_us]
    · rw [pk_un c]; exact h v (by omega)
end
section
variable {g_n g_pr : Int32} {b_kind b_a b_b b_c b_var b_out b_left : Nat → Int32}
theorem rl_y12 {post : SY → Prop} (K : ∀ b_var, (∀ v, v < 6 → b_var v = 0) → post (g_n, g_pr, b_kind, b_a, b_b, b_c, b_var, b_out, b_left)) : ∀ k j b_var, j + k = 6 → (∀ v, v < j → b_var v = 0) → ∀ n, k < n → wY_clear_12 post g_n g_pr n (nI j) b_kind b_a b_b b_c b_var b_out b_left := by
  intro k
  induction k with
  | zero =>
    intro j b_var hj h n hn
    obtain ⟨n, rfl⟩ : ∃ n', n = n' + 1 := ⟨n - 1, by omega⟩
    have e : j = 6 := by omega
    subst e
    exact br_t (by decide) (K _ h)
  | succ k ih =>
    intro j b_var hj h n hn
    obtain ⟨n, rfl⟩ : ∃ n', n = n' + 1 := ⟨n - 1, by omega⟩
    unfold wY_clear_12
    refine br_f (nI_ge (b := 6) (by omega) (by decide)) ⟨vp_in_nI (by omega) (by omega), nm_e (nm_r (nI_1 _) ?_)⟩
    rw [nI_clamp (by omega)]
    refine ih (j + 1) _ (by omega) (fun v hv => ?_) n (by omega)
    by_cases c : v = j
    · subst c; rw [pk_us]
    · rw [pk_un c]; exact h v (by omega)
end
end
section
/-- the relation at the head of a turn: the same source, variables and output; what X has compiled is the code of that source -/
def i_Rel (_ : Nat) (u : SX) (v : SY) : Prop :=
  match u, v with
  | (f_length, f_compiled, f_isSound, f_codeEnd, f_layoutDepth, f_openLoops, f_openBlocks, f_depth, f_printedCount, a_kind, a_first, a_second, a_third, a_variables, a_operation, a_operand, a_layout, a_blockKind, a_blockPatch, a_stack, a_printedValues), (g_n, g_pr, b_kind, b_a, b_b, b_c, b_var, b_out, b_left) => rl_R f_length f_compiled f_isSound f_codeEnd f_printedCount a_kind a_first a_second a_third a_variables a_operation a_operand a_printedValues g_n g_pr b_kind b_a b_b b_c b_var b_out
theorem i_up {k : Nat} {u : SX} {v : SY} (h : i_Rel k u v) : i_Rel (k + 5) u v := h
theorem i_vc0 : wpX_init (fun u => wpY_init (fun v => i_Rel 0 u v)) := by
  refine (⟨fun _ => (0, 0, 0, 0, 0), 0, by omega, rfl, rfl, fun i hi => by omega, fun i hi => by omega, fun i hi => by omega, rfl, rfl, fun v hv => rfl, Or.inl rfl⟩ : rl_R _ _ _ _ _ _ _ _ _ _ _ _ _ _ _ _ _ _ _ _ _)
theorem i_vc_add {k : Nat} {u : SX} {v : SY} (I : i_Rel k u v) (hk : k + 5 ≤ 2560) (v1 : Int32) (v2 : Int32) (v3 : Int32) (v4 : Int32) : wpX_add (fun r u' => wpY_add (fun r' v' => r' = r ∧ i_Rel (k + 5) u' v') v v1 v2 v3 v4) u v1 v2 v3 v4 := by
  obtain ⟨f_length, f_compiled, f_isSound, f_codeEnd, f_layoutDepth, f_openLoops, f_openBlocks, f_depth, f_printedCount, a_kind, a_first, a_second, a_third, a_variables, a_operation, a_operand, a_layout, a_blockKind, a_blockPatch, a_stack, a_printedValues⟩ := u
  obtain ⟨g_n, g_pr, b_kind, b_a, b_b, b_c, b_var, b_out, b_left⟩ := v
  have I0 := I
  obtain ⟨Q, n, hn, hl, hg, hq, hX, hY, hp, ho, hv, hC⟩ := I
  by_cases c40 : n < 40
  · by_cases c0 : v1 < 0
    · unfold wpX_add
      dsimp only
      refine br_t (by rw [hl]; exact nI_lt (b := 40) c40 (by decide)) (br_t c0 ?_)
      unfold wpY_add
      dsimp only
      refine br_f (by rw [hg]; intro z; have := (nI_eq (b := 40) (by omega) (by omega)).mp z; omega) ?_
      unfold wpY_fits
      dsimp only
      exact br_t c0 (br_t rfl ⟨rfl, I0⟩)
    · by_cases c11 : v1 ≤ 11
      · obtain ⟨q, hq11, e⟩ := nI_of2 (n := 11) (by decide) c0 c11
        subst e
        refine ad_X c40 hq11 hl (fun hF => ?_) (fun hF => ?_)
        · refine ad_Y c40 hq11 hg (fun _ => ⟨rfl, ?_⟩) (fun z => absurd hF z)
          exact ⟨ad_Q Q n q v2 v3 v4, n + 1, by omega, rfl, rfl, ad_ok hq11 hF hq, ad_qX hq11 hF hX, ad_qY hq11 hF hY, hp, ho, hv, Or.inl rfl⟩
        · exact ad_Y c40 hq11 hg (fun z => absurd z hF) (fun _ => ⟨rfl, I0⟩)
      · unfold wpX_add
        dsimp only
        refine br_t (by rw [hl]; exact nI_lt (b := 40) c40 (by decide)) (br_f c0 (br_f c11 ?_))
        unfold wpY_add
        dsimp only
        refine br_f (by rw [hg]; intro z; have := (nI_eq (b := 40) (by omega) (by omega)).mp z; omega) ?_
        unfold wpY_fits
        dsimp only
        exact br_f c0 (br_f c11 (br_t rfl ⟨rfl, I0⟩))
  · have e : n = 40 := by omega
    unfold wpX_add
    dsimp only
    refine br_f (by rw [hl, e]; decide) ?_
    unfold wpY_add
    dsimp only
    exact br_t (by rw [hg, e]; rfl) ⟨rfl, I0⟩
theorem i_vc_retract {k : Nat} {u : SX} {v : SY} (I : i_Rel k u v) (hk : k + 5 ≤ 2560) : wpX_retract (fun r u' => wpY_retract (fun r' v' => r' = r ∧ i_Rel (k + 5) u' v') v) u := by
  obtain ⟨f_length, f_compiled, f_isSound, f_codeEnd, f_layoutDepth, f_openLoops, f_openBlocks, f_depth, f_printedCount, a_kind, a_first, a_second, a_third, a_variables, a_operation, a_operand, a_layout, a_blockKind, a_blockPatch, a_stack, a_printedValues⟩ := u
  obtain ⟨g_n, g_pr, b_kind, b_a, b_b, b_c, b_var, b_out, b_left⟩ := v
  have I0 := I
  obtain ⟨Q, n, hn, hl, hg, hq, hX, hY, hp, ho, hv, hC⟩ := I
  subst hl hg
  unfold wpX_retract
  dsimp only
  by_cases c : n = 0
  · refine br_t (by rw [c]; rfl) ?_
    unfold wpY_retract
    dsimp only
    exact br_t (by rw [c]; rfl) ⟨rfl, I0⟩
  · obtain ⟨n, rfl⟩ : ∃ n', n = n' + 1 := ⟨n - 1, by omega⟩
    refine br_f (nI_ne0 (by omega) (by omega)) (nm_r (nI_pred _) ?_)
    unfold wpY_retract
    dsimp only
    refine br_f (nI_ne0 (by omega) (by omega)) (nm_r (nI_pred _) ⟨rfl, ?_⟩)
    exact ⟨Q, n, by omega, rfl, rfl, fun i hi => hq i (by omega), fun i hi => hX i (by omega), fun i hi => hY i (by omega), hp, ho, hv, Or.inl rfl⟩
theorem i_vc_sound {k : Nat} {u : SX} {v : SY} (I : i_Rel k u v) (hk : k + 5 ≤ 2560) : wpX_sound (fun r u' => wpY_sound (fun r' => r' = r ∧ i_Rel (k + 5) u' v) v) u := by
  obtain ⟨f_length, f_compiled, f_isSound, f_codeEnd, f_layoutDepth, f_openLoops, f_openBlocks, f_depth, f_printedCount, a_kind, a_first, a_second, a_third, a_variables, a_operation, a_operand, a_layout, a_blockKind, a_blockPatch, a_stack, a_printedValues⟩ := u
  obtain ⟨g_n, g_pr, b_kind, b_a, b_b, b_c, b_var, b_out, b_left⟩ := v
  obtain ⟨Q, n, hn, hl, hg, hq, hX, hY, hp, ho, hv, hC⟩ := I
  unfold wpX_sound
  dsimp only
  refine rl_comp hl hn hq hX hC (fun hs f_codeEnd f_layoutDepth f_openLoops f_openBlocks a_operation a_operand a_layout a_blockKind a_blockPatch => ?_) (fun hs cl f_codeEnd f_layoutDepth f_openLoops f_openBlocks a_operation a_operand a_layout a_blockKind a_blockPatch hc hcc => ?_)
  · dsimp only
    refine ⟨rfl, yo_sound hg hn hq hY (fun z => absurd z hs) (fun _ => ⟨rfl, ?_⟩)⟩
    exact ⟨Q, n, hn, hl, hg, hq, hX, hY, hp, ho, hv, Or.inr ⟨rfl, Or.inl ⟨rfl, hs⟩⟩⟩
  · dsimp only
    refine ⟨rfl, yo_sound hg hn hq hY (fun _ => ⟨rfl, ?_⟩) (fun z => absurd hs z)⟩
    exact ⟨Q, n, hn, hl, hg, hq, hX, hY, hp, ho, hv, Or.inr ⟨rfl, Or.inr ⟨rfl, hs, cl, hc, hcc⟩⟩⟩
theorem i_vc_put {k : Nat} {u : SX} {v : SY} (I : i_Rel k u v) (hk : k + 5 ≤ 2560) (v1 : Int32) (v2 : Int32) : wpX_put (fun r u' => wpY_put (fun r' v' => r' = r ∧ i_Rel (k + 5) u' v') v v1 v2) u v1 v2 := by
  obtain ⟨f_length, f_compiled, f_isSound, f_codeEnd, f_layoutDepth, f_openLoops, f_openBlocks, f_depth, f_printedCount, a_kind, a_first, a_second, a_third, a_variables, a_operation, a_operand, a_layout, a_blockKind, a_blockPatch, a_stack, a_printedValues⟩ := u
  obtain ⟨g_n, g_pr, b_kind, b_a, b_b, b_c, b_var, b_out, b_left⟩ := v
  have I0 := I
  obtain ⟨Q, n, hn, hl, hg, hq, hX, hY, hp, ho, hv, hC⟩ := I
  unfold wpX_put
  dsimp only
  refine ad_x (fun h => ?_) (fun h => ?_)
  · obtain ⟨a, ha, e⟩ := h
    subst e
    refine ⟨vp_in_nI (by omega) (by omega), nm_e ?_⟩
    unfold wpY_put
    dsimp only
    refine ad_isv (fun _ => br_f (by decide) ⟨vp_in_nI (by omega) (by omega), nm_e ⟨rfl, ?_⟩⟩) (fun z => absurd ⟨a, ha, rfl⟩ z)
    refine ⟨Q, n, hn, hl, hg, hq, hX, hY, hp, ho, fun w hw => ?_, hC⟩
    unfold upd
    by_cases c : w = (nI a).toNatClampNeg
    · rw [if_pos c, if_pos c]
    · rw [if_neg c, if_neg c]; exact hv w hw
  · unfold wpY_put
    dsimp only
    exact ad_isv (fun z => absurd z h) (fun _ => br_t rfl ⟨rfl, I0⟩)
theorem i_vc_run {k : Nat} {u : SX} {v : SY} (I : i_Rel k u v) (hk : k + 5 ≤ 2560) : wpX_run (fun r u' => wpY_run (fun r' v' => r' = r ∧ i_Rel (k + 5) u' v') v) u := by
  obtain ⟨f_length, f_compiled, f_isSound, f_codeEnd, f_layoutDepth, f_openLoops, f_openBlocks, f_depth, f_printedCount, a_kind, a_first, a_second, a_third, a_variables, a_operation, a_operand, a_layout, a_blockKind, a_blockPatch, a_stack, a_printedValues⟩ := u
  obtain ⟨g_n, g_pr, b_kind, b_a, b_b, b_c, b_var, b_out, b_left⟩ := v
  obtain ⟨Q, n, hn, hl, hg, hq, hX, hY, hp, ho, hv, hC⟩ := I
  subst ho
  unfold wpX_run
  dsimp only
  refine rl_comp hl hn hq hX hC (fun hs f_codeEnd f_layoutDepth f_openLoops f_openBlocks a_operation a_operand a_layout a_blockKind a_blockPatch => ?_) (fun hs cl f_codeEnd f_layoutDepth f_openLoops f_openBlocks a_operation a_operand a_layout a_blockKind a_blockPatch hc hcc => ?_)
  · dsimp only
    refine br_t rfl ?_
    unfold wpY_run
    dsimp only
    refine yo_sound hg hn hq hY (fun z => absurd z hs) (fun _ => br_t rfl ⟨rfl, ?_⟩)
    exact ⟨Q, n, hn, hl, hg, hq, hX, hY, hp, rfl, hv, Or.inr ⟨rfl, Or.inl ⟨rfl, hs⟩⟩⟩
  · dsimp only
    refine br_f (by decide) ?_
    obtain ⟨t', u', va', lf', c', o', h1, h2, h3, h4, h5⟩ := sm_run hs hq hn hcc b_var b_left b_out
    refine xr_run hc hv h4 h1 ?_
    intro f_depth a_stack a_variables hv'
    refine yr_run hg hn hq hY hs h2 h5 ⟨rfl, ?_⟩
    exact ⟨Q, n, hn, hl, hg, hq, hX, hY, rfl, rfl, hv', Or.inr ⟨rfl, Or.inr ⟨rfl, hs, cl, hc, hcc⟩⟩⟩
theorem i_vc_variable {k : Nat} {u : SX} {v : SY} (I : i_Rel k u v) (hk : k + 5 ≤ 2560) (v1 : Int32) : wpX_variable (fun r => wpY_variable (fun r' => r' = r ∧ i_Rel (k + 5) u v) v v1) u v1 := by
  obtain ⟨f_length, f_compiled, f_isSound, f_codeEnd, f_layoutDepth, f_openLoops, f_openBlocks, f_depth, f_printedCount, a_kind, a_first, a_second, a_third, a_variables, a_operation, a_operand, a_layout, a_blockKind, a_blockPatch, a_stack, a_printedValues⟩ := u
  obtain ⟨g_n, g_pr, b_kind, b_a, b_b, b_c, b_var, b_out, b_left⟩ := v
  have I0 := I
  obtain ⟨Q, n, hn, hl, hg, hq, hX, hY, hp, ho, hv, hC⟩ := I
  unfold wpX_variable
  dsimp only
  refine ad_x (fun h => ?_) (fun h => ?_)
  · obtain ⟨a, ha, e⟩ := h
    subst e
    refine ⟨vp_in_nI (by omega) (by omega), ?_⟩
    unfold wpY_variable
    dsimp only
    refine ad_isv (fun _ => br_f (by decide) ⟨vp_in_nI (by omega) (by omega), ?_, I0⟩) (fun z => absurd ⟨a, ha, rfl⟩ z)
    rw [nI_clamp (by omega)]; exact (hv a (by omega)).symm
  · unfold wpY_variable
    dsimp only
    exact ad_isv (fun z => absurd z h) (fun _ => br_t rfl ⟨rfl, I0⟩)
theorem i_vc_printed {k : Nat} {u : SX} {v : SY} (I : i_Rel k u v) (hk : k + 5 ≤ 2560) : wpX_printed (fun r => wpY_printed (fun r' => r' = r ∧ i_Rel (k + 5) u v) v) u := by
  obtain ⟨f_length, f_compiled, f_isSound, f_codeEnd, f_layoutDepth, f_openLoops, f_openBlocks, f_depth, f_printedCount, a_kind, a_first, a_second, a_third, a_variables, a_operation, a_operand, a_layout, a_blockKind, a_blockPatch, a_stack, a_printedValues⟩ := u
  obtain ⟨g_n, g_pr, b_kind, b_a, b_b, b_c, b_var, b_out, b_left⟩ := v
  have I0 := I
  obtain ⟨Q, n, hn, hl, hg, hq, hX, hY, hp, ho, hv, hC⟩ := I
  exact And.intro hp I0
theorem i_vc_output {k : Nat} {u : SX} {v : SY} (I : i_Rel k u v) (hk : k + 5 ≤ 2560) (v1 : Int32) : wpX_output (fun r => wpY_output (fun r' => r' = r ∧ i_Rel (k + 5) u v) v v1) u v1 := by
  obtain ⟨f_length, f_compiled, f_isSound, f_codeEnd, f_layoutDepth, f_openLoops, f_openBlocks, f_depth, f_printedCount, a_kind, a_first, a_second, a_third, a_variables, a_operation, a_operand, a_layout, a_blockKind, a_blockPatch, a_stack, a_printedValues⟩ := u
  obtain ⟨g_n, g_pr, b_kind, b_a, b_b, b_c, b_var, b_out, b_left⟩ := v
  have I0 := I
  obtain ⟨Q, n, hn, hl, hg, hq, hX, hY, hp, ho, hv, hC⟩ := I
  subst hp ho
  unfold wpX_output
  dsimp only
  by_cases c0 : v1 < 0
  · refine br_t c0 ?_
    unfold wpY_output
    dsimp only
    exact br_t c0 ⟨rfl, I0⟩
  · refine br_f c0 ?_
    by_cases c1 : g_pr ≤ v1
    · refine br_t c1 ?_
      unfold wpY_output
      dsimp only
      exact br_f c0 (br_t c1 ⟨rfl, I0⟩)
    · refine br_f c1 ?_
      by_cases c2 : v1 < 64
      · have hi : vp_in v1 64 := by
          obtain ⟨j, hj, e⟩ := nI_of c0
          subst e
          exact vp_in_nI ((nI_ltI (b := 64) hj (by omega)).mp c2) (by omega)
        refine br_t c2 ⟨hi, ?_⟩
        unfold wpY_output
        dsimp only
        exact br_f c0 (br_f c1 (br_f (Int32.not_le.mpr c2) ⟨hi, rfl, I0⟩))
      · refine br_f c2 ?_
        unfold wpY_output
        dsimp only
        exact br_f c0 (br_f c1 (br_t (Int32.not_lt.mp c2) ⟨rfl, I0⟩))
theorem i_vc_clear {k : Nat} {u : SX} {v : SY} (I : i_Rel k u v) (hk : k + 5 ≤ 2560) : wpX_clear (fun u' => wpY_clear (fun v' => i_Rel (k + 5) u' v') v) u := by
  obtain ⟨f_length, f_compiled, f_isSound, f_codeEnd, f_layoutDepth, f_openLoops, f_openBlocks, f_depth, f_printedCount, a_kind, a_first, a_second, a_third, a_variables, a_operation, a_operand, a_layout, a_blockKind, a_blockPatch, a_stack, a_printedValues⟩ := u
  obtain ⟨g_n, g_pr, b_kind, b_a, b_b, b_c, b_var, b_out, b_left⟩ := v
  obtain ⟨Q, n, hn, hl, hg, hq, hX, hY, hp, ho, hv, hC⟩ := I
  unfold wpX_clear
  dsimp only
  refine ⟨7, rl_x17 (fun va hva => ?_) 6 0 a_variables rfl (fun v hv => by omega) 7 (by omega)⟩
  unfold wpY_clear
  dsimp only
  refine ⟨7, rl_y12 (fun vb hvb => ?_) 6 0 b_var rfl (fun v hv => by omega) 7 (by omega)⟩
  exact ⟨Q, 0, by omega, rfl, rfl, fun i hi => by omega, fun i hi => by omega, fun i hi => by omega, rfl, ho, fun w hw => by rw [hva w hw, hvb w hw], Or.inl rfl⟩
end
