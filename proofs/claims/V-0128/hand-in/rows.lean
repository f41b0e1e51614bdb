section
/-! pure rows to paste: stores, nI and lN arithmetic, masks, shifts, narrowing, branches by naturals (pk_le, pk_lt, pk_eq), loops (lp1 .. lp16: the measure of the state; rp1 ..: recursion), negatives. Take what you need -/
theorem pk_us {f : Nat → Int32} {k : Nat} {x : Int32} : upd f k x k = x := if_pos rfl
theorem pk_un {f : Nat → Int32} {k j : Nat} {x : Int32} (h : j ≠ k) : upd f k x j = f j := if_neg h
theorem pk_uLs {f : Nat → Int64} {k : Nat} {x : Int64} : vp_updL f k x k = x := if_pos rfl
theorem pk_uLn {f : Nat → Int64} {k j : Nat} {x : Int64} (h : j ≠ k) : vp_updL f k x j = f j := if_neg h
theorem pk_sub {a b : Nat} (h : b ≤ a) : nI a - nI b = nI (a - b) := by
  obtain ⟨c, rfl⟩ : ∃ c, a = c + b := ⟨a - b, by omega⟩
  rw [← nI_add, Int32.add_sub_cancel, Nat.add_sub_cancel]
theorem pk_m1 (n : Nat) : nI (n + 1) + (-1) = nI n := by
  rw [← nI_1, Int32.add_assoc, show (1 : Int32) + (-1) = 0 from rfl, Int32.add_zero]
theorem pk_mul (a b : Nat) : nI a * nI b = nI (a * b) := (Int32.ofNat_mul a b).symm
theorem pk_div {a d : Nat} (ha : a < 2 ^ 31) (h0 : 0 < d) (hd : d < 2 ^ 31) : nI a / nI d = nI (a / d) := by
  apply Int32.toInt_inj.mp
  rw [lg_idiv_nonneg (by rw [nI_toInt ha]; omega) (by rw [nI_toInt hd]; omega), nI_toInt ha, nI_toInt hd, nI_toInt (Nat.lt_of_le_of_lt (Nat.div_le_self a d) ha)]
  first | rfl | exact (Int.natCast_ediv _ _).symm
theorem pk_rem {a d : Nat} (ha : a < 2 ^ 31) (h0 : 0 < d) (hd : d < 2 ^ 31) : nI a - nI a / nI d * nI d = nI (a % d) := by
  rw [pk_div ha h0 hd, pk_mul, pk_sub (Nat.div_mul_le_self a d)]
  exact congrArg nI (by have := Nat.div_add_mod' a d; omega)
theorem pk_sub_toInt {a b : Nat} (ha : a < 2 ^ 30) (hb : b < 2 ^ 30) : (nI a - nI b).toInt = (a : Int) - b := by
  rw [Int32.toInt_sub, nI_toInt (by omega), nI_toInt (by omega)]
  exact Int.bmod_eq_of_le (by omega) (by omega)
theorem pk_sneg {a b : Nat} (hb : b < 2 ^ 30) (h : a < b) : nI a - nI b < 0 := by
  rw [Int32.lt_iff_toInt_lt, pk_sub_toInt (by omega) hb, show (0 : Int32).toInt = 0 from by decide]
  omega
theorem pk_ix (x : Int32) {n : Nat} (hn : n < 2 ^ 31) : x < 0 ∨ nI n ≤ x ∨ ∃ j : Nat, j < n ∧ x = nI j := by
  by_cases h : x < 0
  · exact Or.inl h
  · obtain ⟨j, hj, rfl⟩ := nI_of h
    by_cases h2 : j < n
    · exact Or.inr (Or.inr ⟨j, h2, rfl⟩)
    · exact Or.inr (Or.inl (nI_le (by omega) hj))
theorem pk_le {x y : Int32} {A B : Prop} (a b : Nat) (f : a ≤ b → A) (g : b < a → B) (hx : x = nI a := by rfl) (hy : y = nI b := by rfl) (ha : a < 2 ^ 31 := by omega) (hb : b < 2 ^ 31 := by omega) : (x ≤ y → A) ∧ (¬ x ≤ y → B) := by
  subst hx hy
  rw [nI_leI ha hb]
  exact ⟨f, fun z => g (by omega)⟩
theorem pk_lt {x y : Int32} {A B : Prop} (a b : Nat) (f : a < b → A) (g : b ≤ a → B) (hx : x = nI a := by rfl) (hy : y = nI b := by rfl) (ha : a < 2 ^ 31 := by omega) (hb : b < 2 ^ 31 := by omega) : (x < y → A) ∧ (¬ x < y → B) := by
  subst hx hy
  rw [nI_ltI ha hb]
  exact ⟨f, fun z => g (by omega)⟩
theorem pk_eq {x y : Int32} {A B : Prop} (a b : Nat) (f : a = b → A) (g : a ≠ b → B) (hx : x = nI a := by rfl) (hy : y = nI b := by rfl) (ha : a < 2 ^ 31 := by omega) (hb : b < 2 ^ 31 := by omega) : (x = y → A) ∧ (¬ x = y → B) := by
  subst hx hy
  rw [nI_eq ha hb]
  exact ⟨f, g⟩
theorem pk_in {x : Int32} (n N : Nat) (h : n < N) (hx : x = nI n := by rfl) (hN : N < 2 ^ 31 := by omega) : vp_in x N := by
  subst hx
  exact vp_in_nI h hN
theorem pk_cl {x : Int32} (n : Nat) (hx : x = nI n := by rfl) (h : n < 2 ^ 31 := by omega) : x.toNatClampNeg = n := by
  subst hx
  exact nI_clamp h
theorem pk_tn {n : Nat} (h : n < 2 ^ 32) : (nI n).toBitVec.toNat = n := Nat.mod_eq_of_lt h
theorem pk_and (x : Int32) {m : Int32} (k : Nat) (hm : m.toBitVec.toNat = 2 ^ k - 1) : x &&& m = nI (x.toBitVec.toNat % 2 ^ k) := by
  apply Int32.toBitVec_inj.mp
  apply BitVec.eq_of_toNat_eq
  rw [Int32.toBitVec_and, BitVec.toNat_and, hm, Nat.and_two_pow_sub_one_eq_mod]
  show _ = (BitVec.ofNat 32 _).toNat
  rw [BitVec.toNat_ofNat]
  exact (Nat.mod_eq_of_lt (Nat.lt_of_le_of_lt (Nat.mod_le _ _) x.toBitVec.isLt)).symm
theorem pk_andN {n : Nat} (h : n < 2 ^ 32) {m : Int32} (k : Nat) (hm : m.toBitVec.toNat = 2 ^ k - 1) : nI n &&& m = nI (n % 2 ^ k) := by
  rw [pk_and _ k hm, pk_tn h]
theorem pk_andE (x : Int32) {m : Int32} (k : Nat) (hm : m.toBitVec.toNat = 2 ^ k - 1) : ∃ j : Nat, j < 2 ^ k ∧ x &&& m = nI j := ⟨_, Nat.mod_lt _ (Nat.two_pow_pos k), pk_and x k hm⟩
theorem pk_andIn (x : Int32) {m : Int32} (k : Nat) (hm : m.toBitVec.toNat = 2 ^ k - 1) (hk : k ≤ 30) : vp_in (x &&& m) (2 ^ k) := by
  obtain ⟨j, hj, e⟩ := pk_andE x k hm
  rw [e]
  exact vp_in_nI hj (Nat.lt_of_le_of_lt (Nat.pow_le_pow_right (by decide) hk) (by decide))
theorem pk_shl (a s : Int32) (k : Nat) (hs : (s.toBitVec.smod 32).toNat = k) : (a <<< s).toBitVec.toNat = a.toBitVec.toNat * 2 ^ k % 2 ^ 32 := by
  show (a.toBitVec <<< (s.toBitVec.smod 32).toNat).toNat = _
  rw [hs, BitVec.toNat_shiftLeft, Nat.shiftLeft_eq]
theorem pk_shlN {n : Nat} (s : Int32) (k : Nat) (hs : (s.toBitVec.smod 32).toNat = k) (h : n * 2 ^ k < 2 ^ 32) : nI n <<< s = nI (n * 2 ^ k) := by
  apply Int32.toBitVec_inj.mp
  apply BitVec.eq_of_toNat_eq
  have hn : n < 2 ^ 32 := Nat.lt_of_le_of_lt (Nat.le_mul_of_pos_right n (Nat.two_pow_pos k)) h
  rw [pk_shl _ _ k hs, pk_tn hn, pk_tn h, Nat.mod_eq_of_lt h]
theorem pk_shr (a s : Int32) (k : Nat) (hs : (s.toBitVec.smod 32).toNat = k) : (a >>> s).toInt = a.toInt >>> k := by
  show (a.toBitVec.sshiftRight (s.toBitVec.smod 32).toNat).toInt = _
  rw [hs, BitVec.toInt_sshiftRight]
  rfl
theorem pk_shrN {n : Nat} (h : n < 2 ^ 31) (s : Int32) (k : Nat) (hs : (s.toBitVec.smod 32).toNat = k) : nI n >>> s = nI (n / 2 ^ k) := by
  apply Int32.toInt_inj.mp
  have h2 : n / 2 ^ k ≤ n := Nat.div_le_self _ _
  rw [pk_shr _ _ k hs, nI_toInt h, nI_toInt (by omega), Int.shiftRight_eq_div_pow]
  rfl
theorem pk_ushr (x s : Int32) (k : Nat) (hs : ((s.toUInt32 &&& Int32.toUInt32 31).toBitVec % 32).toNat = k) : (x.toUInt32 >>> (s.toUInt32 &&& Int32.toUInt32 31)).toInt32.toBitVec.toNat = x.toBitVec.toNat / 2 ^ k := by
  have e : (x.toUInt32 >>> (s.toUInt32 &&& Int32.toUInt32 31)).toInt32.toBitVec = x.toBitVec >>> k := by
    rw [← hs]
    exact UInt32.toBitVec_shiftRight _ _
  rw [e, BitVec.toNat_ushiftRight, Nat.shiftRight_eq_div_pow]
theorem pk_ushrN {n : Nat} (hn : n < 2 ^ 32) (s : Int32) (k : Nat) (hs : ((s.toUInt32 &&& Int32.toUInt32 31).toBitVec % 32).toNat = k) : ((nI n).toUInt32 >>> (s.toUInt32 &&& Int32.toUInt32 31)).toInt32 = nI (n / 2 ^ k) := by
  apply Int32.toBitVec_inj.mp
  apply BitVec.eq_of_toNat_eq
  rw [pk_ushr _ s k hs, pk_tn hn, pk_tn (Nat.lt_of_le_of_lt (Nat.div_le_self _ _) hn)]
theorem pk_nb (z : Int32) : narrow .byte (.int z.toInt8.toInt32) = .int z.toInt8.toInt32 := congrArg Value.int (by simp)
theorem pk_ns (z : Int32) : narrow .short (.int z.toInt16.toInt32) = .int z.toInt16.toInt32 := congrArg Value.int (by simp)
theorem pk_fb (r : Int32) : fits .byte (.int r.toInt8.toInt32) = true := by
  have ⟨a, b⟩ := lg_i2b_range r
  have h1 : (-128 : Int32).toInt = -128 := by decide
  have h2 : (127 : Int32).toInt = 127 := by decide
  simp only [fits, Bool.and_eq_true, decide_eq_true_eq, Int32.le_iff_toInt_le, h1, h2]
  omega
theorem pk_fs (r : Int32) : fits .short (.int r.toInt16.toInt32) = true := by
  have ⟨a, b⟩ := lg_i2s_range r
  have h1 : (-32768 : Int32).toInt = -32768 := by decide
  have h2 : (32767 : Int32).toInt = 32767 := by decide
  simp only [fits, Bool.and_eq_true, decide_eq_true_eq, Int32.le_iff_toInt_le, h1, h2]
  omega
theorem pk_charN {q : Nat} (hq : q < 65536) : narrow .char (.int (nI q)) = .int (nI q) ∧ fits .char (.int (nI q)) = true := by
  constructor
  · have e : (nI q).toUInt32.toUInt16.toUInt32.toInt32 = nI q := by
      apply Int32.toBitVec_inj.mp
      apply BitVec.eq_of_toNat_eq
      show (nI q).toUInt32.toUInt16.toUInt32.toNat = q % 2 ^ 32
      rw [UInt16.toNat_toUInt32, UInt32.toNat_toUInt16, show (nI q).toUInt32.toNat = q % 2 ^ 32 from rfl]
      omega
    exact congrArg Value.int e
  · have a : (0 : Int32) ≤ nI q := nI_pos' (by omega)
    have b : nI q ≤ 65535 := nI_le (b := 65535) (by omega) (by decide)
    show (decide ((0 : Int32) ≤ nI q) && decide (nI q ≤ 65535)) = true
    rw [decide_eq_true a, decide_eq_true b]
    rfl
theorem pk_char (x : Int32) : (x.toUInt32 % 65536).toInt32 = nI (x.toBitVec.toNat % 65536) := by
  apply Int32.toBitVec_inj.mp
  apply BitVec.eq_of_toNat_eq
  rw [pk_tn (by omega)]
  show (x.toUInt32 % 65536).toNat = _
  rw [UInt32.toNat_mod]
  rfl
theorem pk_nc (x : Int32) : narrow .char (.int (x.toUInt32 % 65536).toInt32) = .int (x.toUInt32 % 65536).toInt32 := by
  rw [pk_char]
  exact (pk_charN (Nat.mod_lt _ (by decide))).1
theorem pk_fc (x : Int32) : fits .char (.int (x.toUInt32 % 65536).toInt32) = true := by
  rw [pk_char]
  exact (pk_charN (Nat.mod_lt _ (by decide))).2
theorem pk_vb (z : Int32) : vp_nar .byte z.toInt8.toInt32 = z.toInt8.toInt32 := by rw [vp_nar_byte]; simp
theorem pk_vs (z : Int32) : vp_nar .short z.toInt16.toInt32 = z.toInt16.toInt32 := by rw [vp_nar_short]; simp
theorem pk_vc (z : Int32) : vp_nar .char (z.toUInt32 % 65536).toInt32 = (z.toUInt32 % 65536).toInt32 := Value.int.inj (pk_nc z)
theorem pk_lT {n : Nat} (h : n < 2 ^ 63) : (lN n).toInt = (n : Int) := lg_ofNat_toInt h
theorem pk_lLT {a b : Nat} (ha : a < 2 ^ 63) (hb : b < 2 ^ 63) : lN a < lN b ↔ a < b := by
  rw [Int64.lt_iff_toInt_lt, pk_lT ha, pk_lT hb]; omega
theorem pk_lLE {a b : Nat} (ha : a < 2 ^ 63) (hb : b < 2 ^ 63) : lN a ≤ lN b ↔ a ≤ b := by
  rw [Int64.le_iff_toInt_le, pk_lT ha, pk_lT hb]; omega
theorem pk_lEQ {a b : Nat} (ha : a < 2 ^ 63) (hb : b < 2 ^ 63) : lN a = lN b ↔ a = b := by
  rw [← Int64.toInt_inj, pk_lT ha, pk_lT hb]; omega
theorem pk_lOf {x : Int64} (h : ¬ x < 0) : ∃ k : Nat, k < 2 ^ 63 ∧ x = lN k := by
  rw [Int64.lt_iff_toInt_lt] at h
  have h0 : (0 : Int64).toInt = 0 := by decide
  have hx := Int64.toInt_lt x
  refine ⟨x.toInt.toNat, by omega, Int64.toInt_inj.mp ?_⟩
  rw [pk_lT (by omega)]
  omega
theorem pk_lDiv {a b : Nat} (ha : a < 2 ^ 63) (h0 : 0 < b) (hb : b < 2 ^ 63) : lN a / lN b = lN (a / b) := by
  apply Int64.toInt_inj.mp
  rw [lg_ldiv_nonneg (by rw [pk_lT ha]; omega) (by rw [pk_lT hb]; omega), pk_lT ha, pk_lT hb, pk_lT (Nat.lt_of_le_of_lt (Nat.div_le_self a b) ha)]
  rfl
theorem pk_lRem {a b : Nat} (ha : a < 2 ^ 63) (h0 : 0 < b) (hb : b < 2 ^ 63) : lN a - lN a / lN b * lN b = lN (a % b) := by
  rw [pk_lDiv ha h0 hb, lN_mul, lN_sub (Nat.div_mul_le_self a b)]
  exact congrArg lN (by have := Nat.div_add_mod' a b; omega)
theorem pk_loop {σ : Type} (W : Nat → Nat → σ → Prop) (I : Nat → σ → Prop) (e i0 : Nat) (s : σ) (hi : i0 ≤ e) (h0 : I i0 s) (hx : ∀ n s, I e s → W (n + 1) e s)
    (hs : ∀ n i s, i < e → I i s → (∀ s', I (i + 1) s' → W n (i + 1) s') → W (n + 1) i s) : ∃ n, W n i0 s :=
  ⟨e + 1, loop_i W I e hx hs (e + 1) i0 s hi (by omega) h0⟩
theorem pk_loopD {σ : Type} (W : Nat → Nat → σ → Prop) (I : Nat → σ → Prop) (hx : ∀ n s, I 0 s → W (n + 1) 0 s)
    (hs : ∀ n i s, I (i + 1) s → (∀ s', I i s' → W n i s') → W (n + 1) (i + 1) s) : ∀ (e : Nat) (s : σ), I e s → W (e + 1) e s := by
  intro e
  induction e with
  | zero => exact fun s h => hx 0 s h
  | succ e ih => exact fun s h => hs (e + 1) e s h (fun s' h' => ih s' h')
theorem lp1 {A1 : Type} (W : Nat → A1 → Prop) (I : A1 → Prop) (μ : A1 → Nat) (hs : ∀ (n : Nat) (a1 : A1), I a1 → (∀ (b1 : A1), I b1 → μ b1 < μ a1 → W n b1) → W (n + 1) a1) (a1 : A1) (h : I a1) : ∃ n, W n a1 :=
  loop_m (σ := A1) (fun n s => W n s) (fun s => I s) (fun s => μ s) (fun n s hI hk => hs n s hI (fun b1 h9 hm => hk b1 h9 hm)) a1 h
theorem lp2 {A1 A2 : Type} (W : Nat → A1 → A2 → Prop) (I : A1 → A2 → Prop) (μ : A1 → A2 → Nat) (hs : ∀ (n : Nat) (a1 : A1) (a2 : A2), I a1 a2 → (∀ (b1 : A1) (b2 : A2), I b1 b2 → μ b1 b2 < μ a1 a2 → W n b1 b2) → W (n + 1) a1 a2) (a1 : A1) (a2 : A2) (h : I a1 a2) : ∃ n, W n a1 a2 :=
  loop_m (σ := A1 × A2) (fun n s => W n s.1 s.2) (fun s => I s.1 s.2) (fun s => μ s.1 s.2) (fun n s hI hk => hs n s.1 s.2 hI (fun b1 b2 h9 hm => hk (b1, b2) h9 hm)) (a1, a2) h
theorem lp3 {A1 A2 A3 : Type} (W : Nat → A1 → A2 → A3 → Prop) (I : A1 → A2 → A3 → Prop) (μ : A1 → A2 → A3 → Nat) (hs : ∀ (n : Nat) (a1 : A1) (a2 : A2) (a3 : A3), I a1 a2 a3 → (∀ (b1 : A1) (b2 : A2) (b3 : A3), I b1 b2 b3 → μ b1 b2 b3 < μ a1 a2 a3 → W n b1 b2 b3) → W (n + 1) a1 a2 a3) (a1 : A1) (a2 : A2) (a3 : A3) (h : I a1 a2 a3) : ∃ n, W n a1 a2 a3 :=
  loop_m (σ := A1 × A2 × A3) (fun n s => W n s.1 s.2.1 s.2.2) (fun s => I s.1 s.2.1 s.2.2) (fun s => μ s.1 s.2.1 s.2.2) (fun n s hI hk => hs n s.1 s.2.1 s.2.2 hI (fun b1 b2 b3 h9 hm => hk (b1, b2, b3) h9 hm)) (a1, a2, a3) h
theorem lp4 {A1 A2 A3 A4 : Type} (W : Nat → A1 → A2 → A3 → A4 → Prop) (I : A1 → A2 → A3 → A4 → Prop) (μ : A1 → A2 → A3 → A4 → Nat) (hs : ∀ (n : Nat) (a1 : A1) (a2 : A2) (a3 : A3) (a4 : A4), I a1 a2 a3 a4 → (∀ (b1 : A1) (b2 : A2) (b3 : A3) (b4 : A4), I b1 b2 b3 b4 → μ b1 b2 b3 b4 < μ a1 a2 a3 a4 → W n b1 b2 b3 b4) → W (n + 1) a1 a2 a3 a4) (a1 : A1) (a2 : A2) (a3 : A3) (a4 : A4) (h : I a1 a2 a3 a4) : ∃ n, W n a1 a2 a3 a4 :=
  loop_m (σ := A1 × A2 × A3 × A4) (fun n s => W n s.1 s.2.1 s.2.2.1 s.2.2.2) (fun s => I s.1 s.2.1 s.2.2.1 s.2.2.2) (fun s => μ s.1 s.2.1 s.2.2.1 s.2.2.2) (fun n s hI hk => hs n s.1 s.2.1 s.2.2.1 s.2.2.2 hI (fun b1 b2 b3 b4 h9 hm => hk (b1, b2, b3, b4) h9 hm)) (a1, a2, a3, a4) h
theorem lp5 {A1 A2 A3 A4 A5 : Type} (W : Nat → A1 → A2 → A3 → A4 → A5 → Prop) (I : A1 → A2 → A3 → A4 → A5 → Prop) (μ : A1 → A2 → A3 → A4 → A5 → Nat) (hs : ∀ (n : Nat) (a1 : A1) (a2 : A2) (a3 : A3) (a4 : A4) (a5 : A5), I a1 a2 a3 a4 a5 → (∀ (b1 : A1) (b2 : A2) (b3 : A3) (b4 : A4) (b5 : A5), I b1 b2 b3 b4 b5 → μ b1 b2 b3 b4 b5 < μ a1 a2 a3 a4 a5 → W n b1 b2 b3 b4 b5) → W (n + 1) a1 a2 a3 a4 a5) (a1 : A1) (a2 : A2) (a3 : A3) (a4 : A4) (a5 : A5) (h : I a1 a2 a3 a4 a5) : ∃ n, W n a1 a2 a3 a4 a5 :=
  loop_m (σ := A1 × A2 × A3 × A4 × A5) (fun n s => W n s.1 s.2.1 s.2.2.1 s.2.2.2.1 s.2.2.2.2) (fun s => I s.1 s.2.1 s.2.2.1 s.2.2.2.1 s.2.2.2.2) (fun s => μ s.1 s.2.1 s.2.2.1 s.2.2.2.1 s.2.2.2.2) (fun n s hI hk => hs n s.1 s.2.1 s.2.2.1 s.2.2.2.1 s.2.2.2.2 hI (fun b1 b2 b3 b4 b5 h9 hm => hk (b1, b2, b3, b4, b5) h9 hm)) (a1, a2, a3, a4, a5) h
theorem lp6 {A1 A2 A3 A4 A5 A6 : Type} (W : Nat → A1 → A2 → A3 → A4 → A5 → A6 → Prop) (I : A1 → A2 → A3 → A4 → A5 → A6 → Prop) (μ : A1 → A2 → A3 → A4 → A5 → A6 → Nat) (hs : ∀ (n : Nat) (a1 : A1) (a2 : A2) (a3 : A3) (a4 : A4) (a5 : A5) (a6 : A6), I a1 a2 a3 a4 a5 a6 → (∀ (b1 : A1) (b2 : A2) (b3 : A3) (b4 : A4) (b5 : A5) (b6 : A6), I b1 b2 b3 b4 b5 b6 → μ b1 b2 b3 b4 b5 b6 < μ a1 a2 a3 a4 a5 a6 → W n b1 b2 b3 b4 b5 b6) → W (n + 1) a1 a2 a3 a4 a5 a6) (a1 : A1) (a2 : A2) (a3 : A3) (a4 : A4) (a5 : A5) (a6 : A6) (h : I a1 a2 a3 a4 a5 a6) : ∃ n, W n a1 a2 a3 a4 a5 a6 :=
  loop_m (σ := A1 × A2 × A3 × A4 × A5 × A6) (fun n s => W n s.1 s.2.1 s.2.2.1 s.2.2.2.1 s.2.2.2.2.1 s.2.2.2.2.2) (fun s => I s.1 s.2.1 s.2.2.1 s.2.2.2.1 s.2.2.2.2.1 s.2.2.2.2.2) (fun s => μ s.1 s.2.1 s.2.2.1 s.2.2.2.1 s.2.2.2.2.1 s.2.2.2.2.2) (fun n s hI hk => hs n s.1 s.2.1 s.2.2.1 s.2.2.2.1 s.2.2.2.2.1 s.2.2.2.2.2 hI (fun b1 b2 b3 b4 b5 b6 h9 hm => hk (b1, b2, b3, b4, b5, b6) h9 hm)) (a1, a2, a3, a4, a5, a6) h
theorem lp7 {A1 A2 A3 A4 A5 A6 A7 : Type} (W : Nat → A1 → A2 → A3 → A4 → A5 → A6 → A7 → Prop) (I : A1 → A2 → A3 → A4 → A5 → A6 → A7 → Prop) (μ : A1 → A2 → A3 → A4 → A5 → A6 → A7 → Nat) (hs : ∀ (n : Nat) (a1 : A1) (a2 : A2) (a3 : A3) (a4 : A4) (a5 : A5) (a6 : A6) (a7 : A7), I a1 a2 a3 a4 a5 a6 a7 → (∀ (b1 : A1) (b2 : A2) (b3 : A3) (b4 : A4) (b5 : A5) (b6 : A6) (b7 : A7), I b1 b2 b3 b4 b5 b6 b7 → μ b1 b2 b3 b4 b5 b6 b7 < μ a1 a2 a3 a4 a5 a6 a7 → W n b1 b2 b3 b4 b5 b6 b7) → W (n + 1) a1 a2 a3 a4 a5 a6 a7) (a1 : A1) (a2 : A2) (a3 : A3) (a4 : A4) (a5 : A5) (a6 : A6) (a7 : A7) (h : I a1 a2 a3 a4 a5 a6 a7) : ∃ n, W n a1 a2 a3 a4 a5 a6 a7 :=
  loop_m (σ := A1 × A2 × A3 × A4 × A5 × A6 × A7) (fun n s => W n s.1 s.2.1 s.2.2.1 s.2.2.2.1 s.2.2.2.2.1 s.2.2.2.2.2.1 s.2.2.2.2.2.2) (fun s => I s.1 s.2.1 s.2.2.1 s.2.2.2.1 s.2.2.2.2.1 s.2.2.2.2.2.1 s.2.2.2.2.2.2) (fun s => μ s.1 s.2.1 s.2.2.1 s.2.2.2.1 s.2.2.2.2.1 s.2.2.2.2.2.1 s.2.2.2.2.2.2) (fun n s hI hk => hs n s.1 s.2.1 s.2.2.1 s.2.2.2.1 s.2.2.2.2.1 s.2.2.2.2.2.1 s.2.2.2.2.2.2 hI (fun b1 b2 b3 b4 b5 b6 b7 h9 hm => hk (b1, b2, b3, b4, b5, b6, b7) h9 hm)) (a1, a2, a3, a4, a5, a6, a7) h
theorem lp8 {A1 A2 A3 A4 A5 A6 A7 A8 : Type} (W : Nat → A1 → A2 → A3 → A4 → A5 → A6 → A7 → A8 → Prop) (I : A1 → A2 → A3 → A4 → A5 → A6 → A7 → A8 → Prop) (μ : A1 → A2 → A3 → A4 → A5 → A6 → A7 → A8 → Nat) (hs : ∀ (n : Nat) (a1 : A1) (a2 : A2) (a3 : A3) (a4 : A4) (a5 : A5) (a6 : A6) (a7 : A7) (a8 : A8), I a1 a2 a3 a4 a5 a6 a7 a8 → (∀ (b1 : A1) (b2 : A2) (b3 : A3) (b4 : A4) (b5 : A5) (b6 : A6) (b7 : A7) (b8 : A8), I b1 b2 b3 b4 b5 b6 b7 b8 → μ b1 b2 b3 b4 b5 b6 b7 b8 < μ a1 a2 a3 a4 a5 a6 a7 a8 → W n b1 b2 b3 b4 b5 b6 b7 b8) → W (n + 1) a1 a2 a3 a4 a5 a6 a7 a8) (a1 : A1) (a2 : A2) (a3 : A3) (a4 : A4) (a5 : A5) (a6 : A6) (a7 : A7) (a8 : A8) (h : I a1 a2 a3 a4 a5 a6 a7 a8) : ∃ n, W n a1 a2 a3 a4 a5 a6 a7 a8 :=
  loop_m (σ := A1 × A2 × A3 × A4 × A5 × A6 × A7 × A8) (fun n s => W n s.1 s.2.1 s.2.2.1 s.2.2.2.1 s.2.2.2.2.1 s.2.2.2.2.2.1 s.2.2.2.2.2.2.1 s.2.2.2.2.2.2.2) (fun s => I s.1 s.2.1 s.2.2.1 s.2.2.2.1 s.2.2.2.2.1 s.2.2.2.2.2.1 s.2.2.2.2.2.2.1 s.2.2.2.2.2.2.2) (fun s => μ s.1 s.2.1 s.2.2.1 s.2.2.2.1 s.2.2.2.2.1 s.2.2.2.2.2.1 s.2.2.2.2.2.2.1 s.2.2.2.2.2.2.2) (fun n s hI hk => hs n s.1 s.2.1 s.2.2.1 s.2.2.2.1 s.2.2.2.2.1 s.2.2.2.2.2.1 s.2.2.2.2.2.2.1 s.2.2.2.2.2.2.2 hI (fun b1 b2 b3 b4 b5 b6 b7 b8 h9 hm => hk (b1, b2, b3, b4, b5, b6, b7, b8) h9 hm)) (a1, a2, a3, a4, a5, a6, a7, a8) h
theorem lp9 {A1 A2 A3 A4 A5 A6 A7 A8 A9 : Type} (W : Nat → A1 → A2 → A3 → A4 → A5 → A6 → A7 → A8 → A9 → Prop) (I : A1 → A2 → A3 → A4 → A5 → A6 → A7 → A8 → A9 → Prop) (μ : A1 → A2 → A3 → A4 → A5 → A6 → A7 → A8 → A9 → Nat) (hs : ∀ (n : Nat) (a1 : A1) (a2 : A2) (a3 : A3) (a4 : A4) (a5 : A5) (a6 : A6) (a7 : A7) (a8 : A8) (a9 : A9), I a1 a2 a3 a4 a5 a6 a7 a8 a9 → (∀ (b1 : A1) (b2 : A2) (b3 : A3) (b4 : A4) (b5 : A5) (b6 : A6) (b7 : A7) (b8 : A8) (b9 : A9), I b1 b2 b3 b4 b5 b6 b7 b8 b9 → μ b1 b2 b3 b4 b5 b6 b7 b8 b9 < μ a1 a2 a3 a4 a5 a6 a7 a8 a9 → W n b1 b2 b3 b4 b5 b6 b7 b8 b9) → W (n + 1) a1 a2 a3 a4 a5 a6 a7 a8 a9) (a1 : A1) (a2 : A2) (a3 : A3) (a4 : A4) (a5 : A5) (a6 : A6) (a7 : A7) (a8 : A8) (a9 : A9) (h : I a1 a2 a3 a4 a5 a6 a7 a8 a9) : ∃ n, W n a1 a2 a3 a4 a5 a6 a7 a8 a9 :=
  loop_m (σ := A1 × A2 × A3 × A4 × A5 × A6 × A7 × A8 × A9) (fun n s => W n s.1 s.2.1 s.2.2.1 s.2.2.2.1 s.2.2.2.2.1 s.2.2.2.2.2.1 s.2.2.2.2.2.2.1 s.2.2.2.2.2.2.2.1 s.2.2.2.2.2.2.2.2) (fun s => I s.1 s.2.1 s.2.2.1 s.2.2.2.1 s.2.2.2.2.1 s.2.2.2.2.2.1 s.2.2.2.2.2.2.1 s.2.2.2.2.2.2.2.1 s.2.2.2.2.2.2.2.2) (fun s => μ s.1 s.2.1 s.2.2.1 s.2.2.2.1 s.2.2.2.2.1 s.2.2.2.2.2.1 s.2.2.2.2.2.2.1 s.2.2.2.2.2.2.2.1 s.2.2.2.2.2.2.2.2) (fun n s hI hk => hs n s.1 s.2.1 s.2.2.1 s.2.2.2.1 s.2.2.2.2.1 s.2.2.2.2.2.1 s.2.2.2.2.2.2.1 s.2.2.2.2.2.2.2.1 s.2.2.2.2.2.2.2.2 hI (fun b1 b2 b3 b4 b5 b6 b7 b8 b9 h9 hm => hk (b1, b2, b3, b4, b5, b6, b7, b8, b9) h9 hm)) (a1, a2, a3, a4, a5, a6, a7, a8, a9) h
theorem lp10 {A1 A2 A3 A4 A5 A6 A7 A8 A9 A10 : Type} (W : Nat → A1 → A2 → A3 → A4 → A5 → A6 → A7 → A8 → A9 → A10 → Prop) (I : A1 → A2 → A3 → A4 → A5 → A6 → A7 → A8 → A9 → A10 → Prop) (μ : A1 → A2 → A3 → A4 → A5 → A6 → A7 → A8 → A9 → A10 → Nat) (hs : ∀ (n : Nat) (a1 : A1) (a2 : A2) (a3 : A3) (a4 : A4) (a5 : A5) (a6 : A6) (a7 : A7) (a8 : A8) (a9 : A9) (a10 : A10), I a1 a2 a3 a4 a5 a6 a7 a8 a9 a10 → (∀ (b1 : A1) (b2 : A2) (b3 : A3) (b4 : A4) (b5 : A5) (b6 : A6) (b7 : A7) (b8 : A8) (b9 : A9) (b10 : A10), I b1 b2 b3 b4 b5 b6 b7 b8 b9 b10 → μ b1 b2 b3 b4 b5 b6 b7 b8 b9 b10 < μ a1 a2 a3 a4 a5 a6 a7 a8 a9 a10 → W n b1 b2 b3 b4 b5 b6 b7 b8 b9 b10) → W (n + 1) a1 a2 a3 a4 a5 a6 a7 a8 a9 a10) (a1 : A1) (a2 : A2) (a3 : A3) (a4 : A4) (a5 : A5) (a6 : A6) (a7 : A7) (a8 : A8) (a9 : A9) (a10 : A10) (h : I a1 a2 a3 a4 a5 a6 a7 a8 a9 a10) : ∃ n, W n a1 a2 a3 a4 a5 a6 a7 a8 a9 a10 :=
  loop_m (σ := A1 × A2 × A3 × A4 × A5 × A6 × A7 × A8 × A9 × A10) (fun n s => W n s.1 s.2.1 s.2.2.1 s.2.2.2.1 s.2.2.2.2.1 s.2.2.2.2.2.1 s.2.2.2.2.2.2.1 s.2.2.2.2.2.2.2.1 s.2.2.2.2.2.2.2.2.1 s.2.2.2.2.2.2.2.2.2) (fun s => I s.1 s.2.1 s.2.2.1 s.2.2.2.1 s.2.2.2.2.1 s.2.2.2.2.2.1 s.2.2.2.2.2.2.1 s.2.2.2.2.2.2.2.1 s.2.2.2.2.2.2.2.2.1 s.2.2.2.2.2.2.2.2.2) (fun s => μ s.1 s.2.1 s.2.2.1 s.2.2.2.1 s.2.2.2.2.1 s.2.2.2.2.2.1 s.2.2.2.2.2.2.1 s.2.2.2.2.2.2.2.1 s.2.2.2.2.2.2.2.2.1 s.2.2.2.2.2.2.2.2.2) (fun n s hI hk => hs n s.1 s.2.1 s.2.2.1 s.2.2.2.1 s.2.2.2.2.1 s.2.2.2.2.2.1 s.2.2.2.2.2.2.1 s.2.2.2.2.2.2.2.1 s.2.2.2.2.2.2.2.2.1 s.2.2.2.2.2.2.2.2.2 hI (fun b1 b2 b3 b4 b5 b6 b7 b8 b9 b10 h9 hm => hk (b1, b2, b3, b4, b5, b6, b7, b8, b9, b10) h9 hm)) (a1, a2, a3, a4, a5, a6, a7, a8, a9, a10) h
theorem lp11 {A1 A2 A3 A4 A5 A6 A7 A8 A9 A10 A11 : Type} (W : Nat → A1 → A2 → A3 → A4 → A5 → A6 → A7 → A8 → A9 → A10 → A11 → Prop) (I : A1 → A2 → A3 → A4 → A5 → A6 → A7 → A8 → A9 → A10 → A11 → Prop) (μ : A1 → A2 → A3 → A4 → A5 → A6 → A7 → A8 → A9 → A10 → A11 → Nat) (hs : ∀ (n : Nat) (a1 : A1) (a2 : A2) (a3 : A3) (a4 : A4) (a5 : A5) (a6 : A6) (a7 : A7) (a8 : A8) (a9 : A9) (a10 : A10) (a11 : A11), I a1 a2 a3 a4 a5 a6 a7 a8 a9 a10 a11 → (∀ (b1 : A1) (b2 : A2) (b3 : A3) (b4 : A4) (b5 : A5) (b6 : A6) (b7 : A7) (b8 : A8) (b9 : A9) (b10 : A10) (b11 : A11), I b1 b2 b3 b4 b5 b6 b7 b8 b9 b10 b11 → μ b1 b2 b3 b4 b5 b6 b7 b8 b9 b10 b11 < μ a1 a2 a3 a4 a5 a6 a7 a8 a9 a10 a11 → W n b1 b2 b3 b4 b5 b6 b7 b8 b9 b10 b11) → W (n + 1) a1 a2 a3 a4 a5 a6 a7 a8 a9 a10 a11) (a1 : A1) (a2 : A2) (a3 : A3) (a4 : A4) (a5 : A5) (a6 : A6) (a7 : A7) (a8 : A8) (a9 : A9) (a10 : A10) (a11 : A11) (h : I a1 a2 a3 a4 a5 a6 a7 a8 a9 a10 a11) : ∃ n, W n a1 a2 a3 a4 a5 a6 a7 a8 a9 a10 a11 :=
  loop_m (σ := A1 × A2 × A3 × A4 × A5 × A6 × A7 × A8 × A9 × A10 × A11) (fun n s => W n s.1 s.2.1 s.2.2.1 s.2.2.2.1 s.2.2.2.2.1 s.2.2.2.2.2.1 s.2.2.2.2.2.2.1 s.2.2.2.2.2.2.2.1 s.2.2.2.2.2.2.2.2.1 s.2.2.2.2.2.2.2.2.2.1 s.2.2.2.2.2.2.2.2.2.2) (fun s => I s.1 s.2.1 s.2.2.1 s.2.2.2.1 s.2.2.2.2.1 s.2.2.2.2.2.1 s.2.2.2.2.2.2.1 s.2.2.2.2.2.2.2.1 s.2.2.2.2.2.2.2.2.1 s.2.2.2.2.2.2.2.2.2.1 s.2.2.2.2.2.2.2.2.2.2) (fun s => μ s.1 s.2.1 s.2.2.1 s.2.2.2.1 s.2.2.2.2.1 s.2.2.2.2.2.1 s.2.2.2.2.2.2.1 s.2.2.2.2.2.2.2.1 s.2.2.2.2.2.2.2.2.1 s.2.2.2.2.2.2.2.2.2.1 s.2.2.2.2.2.2.2.2.2.2) (fun n s hI hk => hs n s.1 s.2.1 s.2.2.1 s.2.2.2.1 s.2.2.2.2.1 s.2.2.2.2.2.1 s.2.2.2.2.2.2.1 s.2.2.2.2.2.2.2.1 s.2.2.2.2.2.2.2.2.1 s.2.2.2.2.2.2.2.2.2.1 s.2.2.2.2.2.2.2.2.2.2 hI (fun b1 b2 b3 b4 b5 b6 b7 b8 b9 b10 b11 h9 hm => hk (b1, b2, b3, b4, b5, b6, b7, b8, b9, b10, b11) h9 hm)) (a1, a2, a3, a4, a5, a6, a7, a8, a9, a10, a11) h
theorem lp12 {A1 A2 A3 A4 A5 A6 A7 A8 A9 A10 A11 A12 : Type} (W : Nat → A1 → A2 → A3 → A4 → A5 → A6 → A7 → A8 → A9 → A10 → A11 → A12 → Prop) (I : A1 → A2 → A3 → A4 → A5 → A6 → A7 → A8 → A9 → A10 → A11 → A12 → Prop) (μ : A1 → A2 → A3 → A4 → A5 → A6 → A7 → A8 → A9 → A10 → A11 → A12 → Nat) (hs : ∀ (n : Nat) (a1 : A1) (a2 : A2) (a3 : A3) (a4 : A4) (a5 : A5) (a6 : A6) (a7 : A7) (a8 : A8) (a9 : A9) (a10 : A10) (a11 : A11) (a12 : A12), I a1 a2 a3 a4 a5 a6 a7 a8 a9 a10 a11 a12 → (∀ (b1 : A1) (b2 : A2) (b3 : A3) (b4 : A4) (b5 : A5) (b6 : A6) (b7 : A7) (b8 : A8) (b9 : A9) (b10 : A10) (b11 : A11) (b12 : A12), I b1 b2 b3 b4 b5 b6 b7 b8 b9 b10 b11 b12 → μ b1 b2 b3 b4 b5 b6 b7 b8 b9 b10 b11 b12 < μ a1 a2 a3 a4 a5 a6 a7 a8 a9 a10 a11 a12 → W n b1 b2 b3 b4 b5 b6 b7 b8 b9 b10 b11 b12) → W (n + 1) a1 a2 a3 a4 a5 a6 a7 a8 a9 a10 a11 a12) (a1 : A1) (a2 : A2) (a3 : A3) (a4 : A4) (a5 : A5) (a6 : A6) (a7 : A7) (a8 : A8) (a9 : A9) (a10 : A10) (a11 : A11) (a12 : A12) (h : I a1 a2 a3 a4 a5 a6 a7 a8 a9 a10 a11 a12) : ∃ n, W n a1 a2 a3 a4 a5 a6 a7 a8 a9 a10 a11 a12 :=
  loop_m (σ := A1 × A2 × A3 × A4 × A5 × A6 × A7 × A8 × A9 × A10 × A11 × A12) (fun n s => W n s.1 s.2.1 s.2.2.1 s.2.2.2.1 s.2.2.2.2.1 s.2.2.2.2.2.1 s.2.2.2.2.2.2.1 s.2.2.2.2.2.2.2.1 s.2.2.2.2.2.2.2.2.1 s.2.2.2.2.2.2.2.2.2.1 s.2.2.2.2.2.2.2.2.2.2.1 s.2.2.2.2.2.2.2.2.2.2.2) (fun s => I s.1 s.2.1 s.2.2.1 s.2.2.2.1 s.2.2.2.2.1 s.2.2.2.2.2.1 s.2.2.2.2.2.2.1 s.2.2.2.2.2.2.2.1 s.2.2.2.2.2.2.2.2.1 s.2.2.2.2.2.2.2.2.2.1 s.2.2.2.2.2.2.2.2.2.2.1 s.2.2.2.2.2.2.2.2.2.2.2) (fun s => μ s.1 s.2.1 s.2.2.1 s.2.2.2.1 s.2.2.2.2.1 s.2.2.2.2.2.1 s.2.2.2.2.2.2.1 s.2.2.2.2.2.2.2.1 s.2.2.2.2.2.2.2.2.1 s.2.2.2.2.2.2.2.2.2.1 s.2.2.2.2.2.2.2.2.2.2.1 s.2.2.2.2.2.2.2.2.2.2.2) (fun n s hI hk => hs n s.1 s.2.1 s.2.2.1 s.2.2.2.1 s.2.2.2.2.1 s.2.2.2.2.2.1 s.2.2.2.2.2.2.1 s.2.2.2.2.2.2.2.1 s.2.2.2.2.2.2.2.2.1 s.2.2.2.2.2.2.2.2.2.1 s.2.2.2.2.2.2.2.2.2.2.1 s.2.2.2.2.2.2.2.2.2.2.2 hI (fun b1 b2 b3 b4 b5 b6 b7 b8 b9 b10 b11 b12 h9 hm => hk (b1, b2, b3, b4, b5, b6, b7, b8, b9, b10, b11, b12) h9 hm)) (a1, a2, a3, a4, a5, a6, a7, a8, a9, a10, a11, a12) h
theorem lp13 {A1 A2 A3 A4 A5 A6 A7 A8 A9 A10 A11 A12 A13 : Type} (W : Nat → A1 → A2 → A3 → A4 → A5 → A6 → A7 → A8 → A9 → A10 → A11 → A12 → A13 → Prop) (I : A1 → A2 → A3 → A4 → A5 → A6 → A7 → A8 → A9 → A10 → A11 → A12 → A13 → Prop) (μ : A1 → A2 → A3 → A4 → A5 → A6 → A7 → A8 → A9 → A10 → A11 → A12 → A13 → Nat) (hs : ∀ (n : Nat) (a1 : A1) (a2 : A2) (a3 : A3) (a4 : A4) (a5 : A5) (a6 : A6) (a7 : A7) (a8 : A8) (a9 : A9) (a10 : A10) (a11 : A11) (a12 : A12) (a13 : A13), I a1 a2 a3 a4 a5 a6 a7 a8 a9 a10 a11 a12 a13 → (∀ (b1 : A1) (b2 : A2) (b3 : A3) (b4 : A4) (b5 : A5) (b6 : A6) (b7 : A7) (b8 : A8) (b9 : A9) (b10 : A10) (b11 : A11) (b12 : A12) (b13 : A13), I b1 b2 b3 b4 b5 b6 b7 b8 b9 b10 b11 b12 b13 → μ b1 b2 b3 b4 b5 b6 b7 b8 b9 b10 b11 b12 b13 < μ a1 a2 a3 a4 a5 a6 a7 a8 a9 a10 a11 a12 a13 → W n b1 b2 b3 b4 b5 b6 b7 b8 b9 b10 b11 b12 b13) → W (n + 1) a1 a2 a3 a4 a5 a6 a7 a8 a9 a10 a11 a12 a13) (a1 : A1) (a2 : A2) (a3 : A3) (a4 : A4) (a5 : A5) (a6 : A6) (a7 : A7) (a8 : A8) (a9 : A9) (a10 : A10) (a11 : A11) (a12 : A12) (a13 : A13) (h : I a1 a2 a3 a4 a5 a6 a7 a8 a9 a10 a11 a12 a13) : ∃ n, W n a1 a2 a3 a4 a5 a6 a7 a8 a9 a10 a11 a12 a13 :=
  loop_m (σ := A1 × A2 × A3 × A4 × A5 × A6 × A7 × A8 × A9 × A10 × A11 × A12 × A13) (fun n s => W n s.1 s.2.1 s.2.2.1 s.2.2.2.1 s.2.2.2.2.1 s.2.2.2.2.2.1 s.2.2.2.2.2.2.1 s.2.2.2.2.2.2.2.1 s.2.2.2.2.2.2.2.2.1 s.2.2.2.2.2.2.2.2.2.1 s.2.2.2.2.2.2.2.2.2.2.1 s.2.2.2.2.2.2.2.2.2.2.2.1 s.2.2.2.2.2.2.2.2.2.2.2.2) (fun s => I s.1 s.2.1 s.2.2.1 s.2.2.2.1 s.2.2.2.2.1 s.2.2.2.2.2.1 s.2.2.2.2.2.2.1 s.2.2.2.2.2.2.2.1 s.2.2.2.2.2.2.2.2.1 s.2.2.2.2.2.2.2.2.2.1 s.2.2.2.2.2.2.2.2.2.2.1 s.2.2.2.2.2.2.2.2.2.2.2.1 s.2.2.2.2.2.2.2.2.2.2.2.2) (fun s => μ s.1 s.2.1 s.2.2.1 s.2.2.2.1 s.2.2.2.2.1 s.2.2.2.2.2.1 s.2.2.2.2.2.2.1 s.2.2.2.2.2.2.2.1 s.2.2.2.2.2.2.2.2.1 s.2.2.2.2.2.2.2.2.2.1 s.2.2.2.2.2.2.2.2.2.2.1 s.2.2.2.2.2.2.2.2.2.2.2.1 s.2.2.2.2.2.2.2.2.2.2.2.2) (fun n s hI hk => hs n s.1 s.2.1 s.2.2.1 s.2.2.2.1 s.2.2.2.2.1 s.2.2.2.2.2.1 s.2.2.2.2.2.2.1 s.2.2.2.2.2.2.2.1 s.2.2.2.2.2.2.2.2.1 s.2.2.2.2.2.2.2.2.2.1 s.2.2.2.2.2.2.2.2.2.2.1 s.2.2.2.2.2.2.2.2.2.2.2.1 s.2.2.2.2.2.2.2.2.2.2.2.2 hI (fun b1 b2 b3 b4 b5 b6 b7 b8 b9 b10 b11 b12 b13 h9 hm => hk (b1, b2, b3, b4, b5, b6, b7, b8, b9, b10, b11, b12, b13) h9 hm)) (a1, a2, a3, a4, a5, a6, a7, a8, a9, a10, a11, a12, a13) h
theorem lp14 {A1 A2 A3 A4 A5 A6 A7 A8 A9 A10 A11 A12 A13 A14 : Type} (W : Nat → A1 → A2 → A3 → A4 → A5 → A6 → A7 → A8 → A9 → A10 → A11 → A12 → A13 → A14 → Prop) (I : A1 → A2 → A3 → A4 → A5 → A6 → A7 → A8 → A9 → A10 → A11 → A12 → A13 → A14 → Prop) (μ : A1 → A2 → A3 → A4 → A5 → A6 → A7 → A8 → A9 → A10 → A11 → A12 → A13 → A14 → Nat) (hs : ∀ (n : Nat) (a1 : A1) (a2 : A2) (a3 : A3) (a4 : A4) (a5 : A5) (a6 : A6) (a7 : A7) (a8 : A8) (a9 : A9) (a10 : A10) (a11 : A11) (a12 : A12) (a13 : A13) (a14 : A14), I a1 a2 a3 a4 a5 a6 a7 a8 a9 a10 a11 a12 a13 a14 → (∀ (b1 : A1) (b2 : A2) (b3 : A3) (b4 : A4) (b5 : A5) (b6 : A6) (b7 : A7) (b8 : A8) (b9 : A9) (b10 : A10) (b11 : A11) (b12 : A12) (b13 : A13) (b14 : A14), I b1 b2 b3 b4 b5 b6 b7 b8 b9 b10 b11 b12 b13 b14 → μ b1 b2 b3 b4 b5 b6 b7 b8 b9 b10 b11 b12 b13 b14 < μ a1 a2 a3 a4 a5 a6 a7 a8 a9 a10 a11 a12 a13 a14 → W n b1 b2 b3 b4 b5 b6 b7 b8 b9 b10 b11 b12 b13 b14) → W (n + 1) a1 a2 a3 a4 a5 a6 a7 a8 a9 a10 a11 a12 a13 a14) (a1 : A1) (a2 : A2) (a3 : A3) (a4 : A4) (a5 : A5) (a6 : A6) (a7 : A7) (a8 : A8) (a9 : A9) (a10 : A10) (a11 : A11) (a12 : A12) (a13 : A13) (a14 : A14) (h : I a1 a2 a3 a4 a5 a6 a7 a8 a9 a10 a11 a12 a13 a14) : ∃ n, W n a1 a2 a3 a4 a5 a6 a7 a8 a9 a10 a11 a12 a13 a14 :=
  loop_m (σ := A1 × A2 × A3 × A4 × A5 × A6 × A7 × A8 × A9 × A10 × A11 × A12 × A13 × A14) (fun n s => W n s.1 s.2.1 s.2.2.1 s.2.2.2.1 s.2.2.2.2.1 s.2.2.2.2.2.1 s.2.2.2.2.2.2.1 s.2.2.2.2.2.2.2.1 s.2.2.2.2.2.2.2.2.1 s.2.2.2.2.2.2.2.2.2.1 s.2.2.2.2.2.2.2.2.2.2.1 s.2.2.2.2.2.2.2.2.2.2.2.1 s.2.2.2.2.2.2.2.2.2.2.2.2.1 s.2.2.2.2.2.2.2.2.2.2.2.2.2) (fun s => I s.1 s.2.1 s.2.2.1 s.2.2.2.1 s.2.2.2.2.1 s.2.2.2.2.2.1 s.2.2.2.2.2.2.1 s.2.2.2.2.2.2.2.1 s.2.2.2.2.2.2.2.2.1 s.2.2.2.2.2.2.2.2.2.1 s.2.2.2.2.2.2.2.2.2.2.1 s.2.2.2.2.2.2.2.2.2.2.2.1 s.2.2.2.2.2.2.2.2.2.2.2.2.1 s.2.2.2.2.2.2.2.2.2.2.2.2.2) (fun s => μ s.1 s.2.1 s.2.2.1 s.2.2.2.1 s.2.2.2.2.1 s.2.2.2.2.2.1 s.2.2.2.2.2.2.1 s.2.2.2.2.2.2.2.1 s.2.2.2.2.2.2.2.2.1 s.2.2.2.2.2.2.2.2.2.1 s.2.2.2.2.2.2.2.2.2.2.1 s.2.2.2.2.2.2.2.2.2.2.2.1 s.2.2.2.2.2.2.2.2.2.2.2.2.1 s.2.2.2.2.2.2.2.2.2.2.2.2.2) (fun n s hI hk => hs n s.1 s.2.1 s.2.2.1 s.2.2.2.1 s.2.2.2.2.1 s.2.2.2.2.2.1 s.2.2.2.2.2.2.1 s.2.2.2.2.2.2.2.1 s.2.2.2.2.2.2.2.2.1 s.2.2.2.2.2.2.2.2.2.1 s.2.2.2.2.2.2.2.2.2.2.1 s.2.2.2.2.2.2.2.2.2.2.2.1 s.2.2.2.2.2.2.2.2.2.2.2.2.1 s.2.2.2.2.2.2.2.2.2.2.2.2.2 hI (fun b1 b2 b3 b4 b5 b6 b7 b8 b9 b10 b11 b12 b13 b14 h9 hm => hk (b1, b2, b3, b4, b5, b6, b7, b8, b9, b10, b11, b12, b13, b14) h9 hm)) (a1, a2, a3, a4, a5, a6, a7, a8, a9, a10, a11, a12, a13, a14) h
theorem lp15 {A1 A2 A3 A4 A5 A6 A7 A8 A9 A10 A11 A12 A13 A14 A15 : Type} (W : Nat → A1 → A2 → A3 → A4 → A5 → A6 → A7 → A8 → A9 → A10 → A11 → A12 → A13 → A14 → A15 → Prop) (I : A1 → A2 → A3 → A4 → A5 → A6 → A7 → A8 → A9 → A10 → A11 → A12 → A13 → A14 → A15 → Prop) (μ : A1 → A2 → A3 → A4 → A5 → A6 → A7 → A8 → A9 → A10 → A11 → A12 → A13 → A14 → A15 → Nat) (hs : ∀ (n : Nat) (a1 : A1) (a2 : A2) (a3 : A3) (a4 : A4) (a5 : A5) (a6 : A6) (a7 : A7) (a8 : A8) (a9 : A9) (a10 : A10) (a11 : A11) (a12 : A12) (a13 : A13) (a14 : A14) (a15 : A15), I a1 a2 a3 a4 a5 a6 a7 a8 a9 a10 a11 a12 a13 a14 a15 → (∀ (b1 : A1) (b2 : A2) (b3 : A3) (b4 : A4) (b5 : A5) (b6 : A6) (b7 : A7) (b8 : A8) (b9 : A9) (b10 : A10) (b11 : A11) (b12 : A12) (b13 : A13) (b14 : A14) (b15 : A15), I b1 b2 b3 b4 b5 b6 b7 b8 b9 b10 b11 b12 b13 b14 b15 → μ b1 b2 b3 b4 b5 b6 b7 b8 b9 b10 b11 b12 b13 b14 b15 < μ a1 a2 a3 a4 a5 a6 a7 a8 a9 a10 a11 a12 a13 a14 a15 → W n b1 b2 b3 b4 b5 b6 b7 b8 b9 b10 b11 b12 b13 b14 b15) → W (n + 1) a1 a2 a3 a4 a5 a6 a7 a8 a9 a10 a11 a12 a13 a14 a15) (a1 : A1) (a2 : A2) (a3 : A3) (a4 : A4) (a5 : A5) (a6 : A6) (a7 : A7) (a8 : A8) (a9 : A9) (a10 : A10) (a11 : A11) (a12 : A12) (a13 : A13) (a14 : A14) (a15 : A15) (h : I a1 a2 a3 a4 a5 a6 a7 a8 a9 a10 a11 a12 a13 a14 a15) : ∃ n, W n a1 a2 a3 a4 a5 a6 a7 a8 a9 a10 a11 a12 a13 a14 a15 :=
  loop_m (σ := A1 × A2 × A3 × A4 × A5 × A6 × A7 × A8 × A9 × A10 × A11 × A12 × A13 × A14 × A15) (fun n s => W n s.1 s.2.1 s.2.2.1 s.2.2.2.1 s.2.2.2.2.1 s.2.2.2.2.2.1 s.2.2.2.2.2.2.1 s.2.2.2.2.2.2.2.1 s.2.2.2.2.2.2.2.2.1 s.2.2.2.2.2.2.2.2.2.1 s.2.2.2.2.2.2.2.2.2.2.1 s.2.2.2.2.2.2.2.2.2.2.2.1 s.2.2.2.2.2.2.2.2.2.2.2.2.1 s.2.2.2.2.2.2.2.2.2.2.2.2.2.1 s.2.2.2.2.2.2.2.2.2.2.2.2.2.2) (fun s => I s.1 s.2.1 s.2.2.1 s.2.2.2.1 s.2.2.2.2.1 s.2.2.2.2.2.1 s.2.2.2.2.2.2.1 s.2.2.2.2.2.2.2.1 s.2.2.2.2.2.2.2.2.1 s.2.2.2.2.2.2.2.2.2.1 s.2.2.2.2.2.2.2.2.2.2.1 s.2.2.2.2.2.2.2.2.2.2.2.1 s.2.2.2.2.2.2.2.2.2.2.2.2.1 s.2.2.2.2.2.2.2.2.2.2.2.2.2.1 s.2.2.2.2.2.2.2.2.2.2.2.2.2.2) (fun s => μ s.1 s.2.1 s.2.2.1 s.2.2.2.1 s.2.2.2.2.1 s.2.2.2.2.2.1 s.2.2.2.2.2.2.1 s.2.2.2.2.2.2.2.1 s.2.2.2.2.2.2.2.2.1 s.2.2.2.2.2.2.2.2.2.1 s.2.2.2.2.2.2.2.2.2.2.1 s.2.2.2.2.2.2.2.2.2.2.2.1 s.2.2.2.2.2.2.2.2.2.2.2.2.1 s.2.2.2.2.2.2.2.2.2.2.2.2.2.1 s.2.2.2.2.2.2.2.2.2.2.2.2.2.2) (fun n s hI hk => hs n s.1 s.2.1 s.2.2.1 s.2.2.2.1 s.2.2.2.2.1 s.2.2.2.2.2.1 s.2.2.2.2.2.2.1 s.2.2.2.2.2.2.2.1 s.2.2.2.2.2.2.2.2.1 s.2.2.2.2.2.2.2.2.2.1 s.2.2.2.2.2.2.2.2.2.2.1 s.2.2.2.2.2.2.2.2.2.2.2.1 s.2.2.2.2.2.2.2.2.2.2.2.2.1 s.2.2.2.2.2.2.2.2.2.2.2.2.2.1 s.2.2.2.2.2.2.2.2.2.2.2.2.2.2 hI (fun b1 b2 b3 b4 b5 b6 b7 b8 b9 b10 b11 b12 b13 b14 b15 h9 hm => hk (b1, b2, b3, b4, b5, b6, b7, b8, b9, b10, b11, b12, b13, b14, b15) h9 hm)) (a1, a2, a3, a4, a5, a6, a7, a8, a9, a10, a11, a12, a13, a14, a15) h
theorem lp16 {A1 A2 A3 A4 A5 A6 A7 A8 A9 A10 A11 A12 A13 A14 A15 A16 : Type} (W : Nat → A1 → A2 → A3 → A4 → A5 → A6 → A7 → A8 → A9 → A10 → A11 → A12 → A13 → A14 → A15 → A16 → Prop) (I : A1 → A2 → A3 → A4 → A5 → A6 → A7 → A8 → A9 → A10 → A11 → A12 → A13 → A14 → A15 → A16 → Prop) (μ : A1 → A2 → A3 → A4 → A5 → A6 → A7 → A8 → A9 → A10 → A11 → A12 → A13 → A14 → A15 → A16 → Nat) (hs : ∀ (n : Nat) (a1 : A1) (a2 : A2) (a3 : A3) (a4 : A4) (a5 : A5) (a6 : A6) (a7 : A7) (a8 : A8) (a9 : A9) (a10 : A10) (a11 : A11) (a12 : A12) (a13 : A13) (a14 : A14) (a15 : A15) (a16 : A16), I a1 a2 a3 a4 a5 a6 a7 a8 a9 a10 a11 a12 a13 a14 a15 a16 → (∀ (b1 : A1) (b2 : A2) (b3 : A3) (b4 : A4) (b5 : A5) (b6 : A6) (b7 : A7) (b8 : A8) (b9 : A9) (b10 : A10) (b11 : A11) (b12 : A12) (b13 : A13) (b14 : A14) (b15 : A15) (b16 : A16), I b1 b2 b3 b4 b5 b6 b7 b8 b9 b10 b11 b12 b13 b14 b15 b16 → μ b1 b2 b3 b4 b5 b6 b7 b8 b9 b10 b11 b12 b13 b14 b15 b16 < μ a1 a2 a3 a4 a5 a6 a7 a8 a9 a10 a11 a12 a13 a14 a15 a16 → W n b1 b2 b3 b4 b5 b6 b7 b8 b9 b10 b11 b12 b13 b14 b15 b16) → W (n + 1) a1 a2 a3 a4 a5 a6 a7 a8 a9 a10 a11 a12 a13 a14 a15 a16) (a1 : A1) (a2 : A2) (a3 : A3) (a4 : A4) (a5 : A5) (a6 : A6) (a7 : A7) (a8 : A8) (a9 : A9) (a10 : A10) (a11 : A11) (a12 : A12) (a13 : A13) (a14 : A14) (a15 : A15) (a16 : A16) (h : I a1 a2 a3 a4 a5 a6 a7 a8 a9 a10 a11 a12 a13 a14 a15 a16) : ∃ n, W n a1 a2 a3 a4 a5 a6 a7 a8 a9 a10 a11 a12 a13 a14 a15 a16 :=
  loop_m (σ := A1 × A2 × A3 × A4 × A5 × A6 × A7 × A8 × A9 × A10 × A11 × A12 × A13 × A14 × A15 × A16) (fun n s => W n s.1 s.2.1 s.2.2.1 s.2.2.2.1 s.2.2.2.2.1 s.2.2.2.2.2.1 s.2.2.2.2.2.2.1 s.2.2.2.2.2.2.2.1 s.2.2.2.2.2.2.2.2.1 s.2.2.2.2.2.2.2.2.2.1 s.2.2.2.2.2.2.2.2.2.2.1 s.2.2.2.2.2.2.2.2.2.2.2.1 s.2.2.2.2.2.2.2.2.2.2.2.2.1 s.2.2.2.2.2.2.2.2.2.2.2.2.2.1 s.2.2.2.2.2.2.2.2.2.2.2.2.2.2.1 s.2.2.2.2.2.2.2.2.2.2.2.2.2.2.2) (fun s => I s.1 s.2.1 s.2.2.1 s.2.2.2.1 s.2.2.2.2.1 s.2.2.2.2.2.1 s.2.2.2.2.2.2.1 s.2.2.2.2.2.2.2.1 s.2.2.2.2.2.2.2.2.1 s.2.2.2.2.2.2.2.2.2.1 s.2.2.2.2.2.2.2.2.2.2.1 s.2.2.2.2.2.2.2.2.2.2.2.1 s.2.2.2.2.2.2.2.2.2.2.2.2.1 s.2.2.2.2.2.2.2.2.2.2.2.2.2.1 s.2.2.2.2.2.2.2.2.2.2.2.2.2.2.1 s.2.2.2.2.2.2.2.2.2.2.2.2.2.2.2) (fun s => μ s.1 s.2.1 s.2.2.1 s.2.2.2.1 s.2.2.2.2.1 s.2.2.2.2.2.1 s.2.2.2.2.2.2.1 s.2.2.2.2.2.2.2.1 s.2.2.2.2.2.2.2.2.1 s.2.2.2.2.2.2.2.2.2.1 s.2.2.2.2.2.2.2.2.2.2.1 s.2.2.2.2.2.2.2.2.2.2.2.1 s.2.2.2.2.2.2.2.2.2.2.2.2.1 s.2.2.2.2.2.2.2.2.2.2.2.2.2.1 s.2.2.2.2.2.2.2.2.2.2.2.2.2.2.1 s.2.2.2.2.2.2.2.2.2.2.2.2.2.2.2) (fun n s hI hk => hs n s.1 s.2.1 s.2.2.1 s.2.2.2.1 s.2.2.2.2.1 s.2.2.2.2.2.1 s.2.2.2.2.2.2.1 s.2.2.2.2.2.2.2.1 s.2.2.2.2.2.2.2.2.1 s.2.2.2.2.2.2.2.2.2.1 s.2.2.2.2.2.2.2.2.2.2.1 s.2.2.2.2.2.2.2.2.2.2.2.1 s.2.2.2.2.2.2.2.2.2.2.2.2.1 s.2.2.2.2.2.2.2.2.2.2.2.2.2.1 s.2.2.2.2.2.2.2.2.2.2.2.2.2.2.1 s.2.2.2.2.2.2.2.2.2.2.2.2.2.2.2 hI (fun b1 b2 b3 b4 b5 b6 b7 b8 b9 b10 b11 b12 b13 b14 b15 b16 h9 hm => hk (b1, b2, b3, b4, b5, b6, b7, b8, b9, b10, b11, b12, b13, b14, b15, b16) h9 hm)) (a1, a2, a3, a4, a5, a6, a7, a8, a9, a10, a11, a12, a13, a14, a15, a16) h
theorem pk_least (P : Nat → Prop) (h : ∃ k, P k) : ∃ k, P k ∧ ∀ j, j < k → ¬ P j := by
  obtain ⟨k, hk⟩ := h
  induction k using Nat.strongRecOn with
  | ind k ih =>
    by_cases e : ∃ j, j < k ∧ P j
    · obtain ⟨j, hj, pj⟩ := e
      exact ih j hj pj
    · exact ⟨k, hk, fun j hj pj => e ⟨j, hj, pj⟩⟩
theorem rp1 {ρ A1 : Type} (W : Nat → (ρ → Prop) → A1 → Prop) (ok : A1 → Prop) (μ : A1 → Nat) (val : A1 → ρ)
    (hs : ∀ (d : Nat) (post : ρ → Prop) (a1 : A1), ok a1 → post (val a1) → (∀ (post' : ρ → Prop) (b1 : A1), ok b1 → μ b1 < μ a1 → post' (val b1) → W d post' b1) → W (d + 1) post a1) :
    ∀ (d : Nat) (post : ρ → Prop) (a1 : A1), ok a1 → μ a1 < d → post (val a1) → W d post a1 := by
  intro d
  induction d with
  | zero => intro post a1 _ h; omega
  | succ d ih =>
    intro post a1 ho hm hp
    exact hs d post a1 ho hp (fun post' b1 ho' hm' hp' => ih post' b1 ho' (by omega) hp')
theorem rp2 {ρ A1 A2 : Type} (W : Nat → (ρ → Prop) → A1 → A2 → Prop) (ok : A1 → A2 → Prop) (μ : A1 → A2 → Nat) (val : A1 → A2 → ρ)
    (hs : ∀ (d : Nat) (post : ρ → Prop) (a1 : A1) (a2 : A2), ok a1 a2 → post (val a1 a2) → (∀ (post' : ρ → Prop) (b1 : A1) (b2 : A2), ok b1 b2 → μ b1 b2 < μ a1 a2 → post' (val b1 b2) → W d post' b1 b2) → W (d + 1) post a1 a2) :
    ∀ (d : Nat) (post : ρ → Prop) (a1 : A1) (a2 : A2), ok a1 a2 → μ a1 a2 < d → post (val a1 a2) → W d post a1 a2 := by
  intro d
  induction d with
  | zero => intro post a1 a2 _ h; omega
  | succ d ih =>
    intro post a1 a2 ho hm hp
    exact hs d post a1 a2 ho hp (fun post' b1 b2 ho' hm' hp' => ih post' b1 b2 ho' (by omega) hp')
theorem rp3 {ρ A1 A2 A3 : Type} (W : Nat → (ρ → Prop) → A1 → A2 → A3 → Prop) (ok : A1 → A2 → A3 → Prop) (μ : A1 → A2 → A3 → Nat) (val : A1 → A2 → A3 → ρ)
    (hs : ∀ (d : Nat) (post : ρ → Prop) (a1 : A1) (a2 : A2) (a3 : A3), ok a1 a2 a3 → post (val a1 a2 a3) → (∀ (post' : ρ → Prop) (b1 : A1) (b2 : A2) (b3 : A3), ok b1 b2 b3 → μ b1 b2 b3 < μ a1 a2 a3 → post' (val b1 b2 b3) → W d post' b1 b2 b3) → W (d + 1) post a1 a2 a3) :
    ∀ (d : Nat) (post : ρ → Prop) (a1 : A1) (a2 : A2) (a3 : A3), ok a1 a2 a3 → μ a1 a2 a3 < d → post (val a1 a2 a3) → W d post a1 a2 a3 := by
  intro d
  induction d with
  | zero => intro post a1 a2 a3 _ h; omega
  | succ d ih =>
    intro post a1 a2 a3 ho hm hp
    exact hs d post a1 a2 a3 ho hp (fun post' b1 b2 b3 ho' hm' hp' => ih post' b1 b2 b3 ho' (by omega) hp')
theorem rp4 {ρ A1 A2 A3 A4 : Type} (W : Nat → (ρ → Prop) → A1 → A2 → A3 → A4 → Prop) (ok : A1 → A2 → A3 → A4 → Prop) (μ : A1 → A2 → A3 → A4 → Nat) (val : A1 → A2 → A3 → A4 → ρ)
    (hs : ∀ (d : Nat) (post : ρ → Prop) (a1 : A1) (a2 : A2) (a3 : A3) (a4 : A4), ok a1 a2 a3 a4 → post (val a1 a2 a3 a4) → (∀ (post' : ρ → Prop) (b1 : A1) (b2 : A2) (b3 : A3) (b4 : A4), ok b1 b2 b3 b4 → μ b1 b2 b3 b4 < μ a1 a2 a3 a4 → post' (val b1 b2 b3 b4) → W d post' b1 b2 b3 b4) → W (d + 1) post a1 a2 a3 a4) :
    ∀ (d : Nat) (post : ρ → Prop) (a1 : A1) (a2 : A2) (a3 : A3) (a4 : A4), ok a1 a2 a3 a4 → μ a1 a2 a3 a4 < d → post (val a1 a2 a3 a4) → W d post a1 a2 a3 a4 := by
  intro d
  induction d with
  | zero => intro post a1 a2 a3 a4 _ h; omega
  | succ d ih =>
    intro post a1 a2 a3 a4 ho hm hp
    exact hs d post a1 a2 a3 a4 ho hp (fun post' b1 b2 b3 b4 ho' hm' hp' => ih post' b1 b2 b3 b4 ho' (by omega) hp')
theorem rp5 {ρ A1 A2 A3 A4 A5 : Type} (W : Nat → (ρ → Prop) → A1 → A2 → A3 → A4 → A5 → Prop) (ok : A1 → A2 → A3 → A4 → A5 → Prop) (μ : A1 → A2 → A3 → A4 → A5 → Nat) (val : A1 → A2 → A3 → A4 → A5 → ρ)
    (hs : ∀ (d : Nat) (post : ρ → Prop) (a1 : A1) (a2 : A2) (a3 : A3) (a4 : A4) (a5 : A5), ok a1 a2 a3 a4 a5 → post (val a1 a2 a3 a4 a5) → (∀ (post' : ρ → Prop) (b1 : A1) (b2 : A2) (b3 : A3) (b4 : A4) (b5 : A5), ok b1 b2 b3 b4 b5 → μ b1 b2 b3 b4 b5 < μ a1 a2 a3 a4 a5 → post' (val b1 b2 b3 b4 b5) → W d post' b1 b2 b3 b4 b5) → W (d + 1) post a1 a2 a3 a4 a5) :
    ∀ (d : Nat) (post : ρ → Prop) (a1 : A1) (a2 : A2) (a3 : A3) (a4 : A4) (a5 : A5), ok a1 a2 a3 a4 a5 → μ a1 a2 a3 a4 a5 < d → post (val a1 a2 a3 a4 a5) → W d post a1 a2 a3 a4 a5 := by
  intro d
  induction d with
  | zero => intro post a1 a2 a3 a4 a5 _ h; omega
  | succ d ih =>
    intro post a1 a2 a3 a4 a5 ho hm hp
    exact hs d post a1 a2 a3 a4 a5 ho hp (fun post' b1 b2 b3 b4 b5 ho' hm' hp' => ih post' b1 b2 b3 b4 b5 ho' (by omega) hp')
theorem rp6 {ρ A1 A2 A3 A4 A5 A6 : Type} (W : Nat → (ρ → Prop) → A1 → A2 → A3 → A4 → A5 → A6 → Prop) (ok : A1 → A2 → A3 → A4 → A5 → A6 → Prop) (μ : A1 → A2 → A3 → A4 → A5 → A6 → Nat) (val : A1 → A2 → A3 → A4 → A5 → A6 → ρ)
    (hs : ∀ (d : Nat) (post : ρ → Prop) (a1 : A1) (a2 : A2) (a3 : A3) (a4 : A4) (a5 : A5) (a6 : A6), ok a1 a2 a3 a4 a5 a6 → post (val a1 a2 a3 a4 a5 a6) → (∀ (post' : ρ → Prop) (b1 : A1) (b2 : A2) (b3 : A3) (b4 : A4) (b5 : A5) (b6 : A6), ok b1 b2 b3 b4 b5 b6 → μ b1 b2 b3 b4 b5 b6 < μ a1 a2 a3 a4 a5 a6 → post' (val b1 b2 b3 b4 b5 b6) → W d post' b1 b2 b3 b4 b5 b6) → W (d + 1) post a1 a2 a3 a4 a5 a6) :
    ∀ (d : Nat) (post : ρ → Prop) (a1 : A1) (a2 : A2) (a3 : A3) (a4 : A4) (a5 : A5) (a6 : A6), ok a1 a2 a3 a4 a5 a6 → μ a1 a2 a3 a4 a5 a6 < d → post (val a1 a2 a3 a4 a5 a6) → W d post a1 a2 a3 a4 a5 a6 := by
  intro d
  induction d with
  | zero => intro post a1 a2 a3 a4 a5 a6 _ h; omega
  | succ d ih =>
    intro post a1 a2 a3 a4 a5 a6 ho hm hp
    exact hs d post a1 a2 a3 a4 a5 a6 ho hp (fun post' b1 b2 b3 b4 b5 b6 ho' hm' hp' => ih post' b1 b2 b3 b4 b5 b6 ho' (by omega) hp')
theorem rec_p {σ ρ : Type} (W : Nat → (ρ → Prop) → σ → Prop) (ok : σ → Prop) (μ : σ → Nat) (val : σ → ρ)
    (hs : ∀ d s post, ok s → post (val s) → (∀ s' post', ok s' → μ s' < μ s → post' (val s') → W d post' s') → W (d + 1) post s) :
    ∀ d s post, ok s → μ s < d → post (val s) → W d post s := by
  intro d
  induction d with
  | zero => intro s post _ h; omega
  | succ d ih =>
    intro s post ho hm hp
    exact hs d s post ho hp (fun s' post' ho' hm' hp' => ih s' post' ho' (by omega) hp')
theorem rec_q {σ ρ : Type} (W : Nat → (ρ → Prop) → σ → Prop) (ok : σ → Prop) (μ : σ → Nat) (Q : σ → ρ → Prop)
    (hs : ∀ d s post, ok s → (∀ r, Q s r → post r) → (∀ s' post', ok s' → μ s' < μ s → (∀ r, Q s' r → post' r) → W d post' s') → W (d + 1) post s) :
    ∀ d s post, ok s → μ s < d → (∀ r, Q s r → post r) → W d post s := by
  intro d
  induction d with
  | zero => intro s post _ h; omega
  | succ d ih =>
    intro s post ho hm hp
    exact hs d s post ho hp (fun s' post' ho' hm' hp' => ih s' post' ho' (by omega) hp')
def bx_sum (f : Nat → Int32) : Nat → Int32
  | 0 => 0
  | n + 1 => bx_sum f n + f n
theorem ek_u {A : Prop} {B : Nat → Prop} {k N : Nat} (hk : k < N) (h : B k) : (some k = none → A) ∧ (∀ y : Nat, some k = some y → (y < N ∧ B y)) :=
  ⟨fun z => absurd z (Option.some_ne_none k), fun _ e => (by cases e; exact ⟨hk, h⟩)⟩
theorem ek_nu {A : Prop} {B : Nat → Prop} (h : A) : ((none : Option Nat) = none → A) ∧ (∀ y : Nat, (none : Option Nat) = some y → B y) :=
  ⟨fun _ => h, fun _ e => (by cases e)⟩
theorem ek_if {c d A B : Prop} (e : c ↔ d) (f : d → A) (g : ¬ d → B) : (c → A) ∧ (¬ c → B) :=
  ⟨fun z => f (e.mp z), fun z => g (fun y => z (e.mpr y))⟩
theorem ek_v {α : Sort _} {P : α → Prop} {a b : α} (e : a = b) (h : P b) : P a := e ▸ h
theorem co_some {x : Option Nat} {A : Prop} {B : Nat → Prop} (i : Nat) (h : B i) (hx : x = some i := by rfl) : (x = none → A) ∧ (∀ y : Nat, x = some y → B y) := by
  subst hx
  exact ⟨fun e => (nomatch e), fun y e => Option.some.inj e ▸ h⟩
theorem co_none {x : Option Nat} {A : Prop} {B : Nat → Prop} (h : A) (hx : x = none := by rfl) : (x = none → A) ∧ (∀ y : Nat, x = some y → B y) := by
  subst hx
  exact ⟨fun _ => h, fun y e => (nomatch e)⟩
theorem co_any {x : Option Nat} {A : Prop} {B : Nat → Prop} (hn : x = none → A) (hs : ∀ i : Nat, x = some i → B i) : (x = none → A) ∧ (∀ y : Nat, x = some y → B y) := ⟨hn, hs⟩
theorem co_2 {P : Nat → Prop} (h0 : P 0) (h1 : P 1) {i : Nat} (hi : i < 2) : P i :=
  match i, hi with
  | 0, _ => h0
  | 1, _ => h1
theorem co_3 {P : Nat → Prop} (h0 : P 0) (h1 : P 1) (h2 : P 2) {i : Nat} (hi : i < 3) : P i :=
  match i, hi with
  | 0, _ => h0
  | 1, _ => h1
  | 2, _ => h2
theorem co_4 {P : Nat → Prop} (h0 : P 0) (h1 : P 1) (h2 : P 2) (h3 : P 3) {i : Nat} (hi : i < 4) : P i :=
  match i, hi with
  | 0, _ => h0
  | 1, _ => h1
  | 2, _ => h2
  | 3, _ => h3
theorem co_dec {N : Nat} {P : Nat → Prop} [DecidablePred P] (h : (List.range N).all (fun i => decide (P i)) = true) {i : Nat} (hi : i < N) : P i := by
  have := List.all_eq_true.mp h i (List.mem_range.mpr hi)
  exact of_decide_eq_true this
theorem co_tab {α : Type} {l : List α} {d : α} {P : α → Prop} (h : ∀ a, a ∈ l → P a) {i : Nat} (hi : i < l.length) : P (l.getD i d) := by
  rw [List.getD_eq_getElem?_getD, List.getElem?_eq_getElem hi]
  exact h _ (List.getElem_mem hi)
theorem pk_mu {x : Int32} {L : Nat} (h0 : ¬ x < 0) (h : ¬ nI L ≤ x) (hL : L < 2 ^ 31) : ∃ j : Nat, j < L ∧ x = nI j ∧ x + 1 = nI (j + 1) ∧ x.toNatClampNeg = j ∧ L - (x + 1).toNatClampNeg < L - x.toNatClampNeg := by
  obtain ⟨j, hj, rfl⟩ := nI_of h0
  have hl : j < L := Nat.not_le.mp fun q => h (nI_le q hj)
  refine ⟨j, hl, rfl, nI_1 j, nI_clamp hj, ?_⟩
  rw [nI_1, nI_clamp (by omega), nI_clamp hj]
  omega
theorem op_s {α : Type} {r : Option α} {A : Prop} {B : α → Prop} {y : α} (h : r = some y) (b : B y) : (r = none → A) ∧ ∀ z, r = some z → B z :=
  ⟨fun e => (by rw [h] at e; cases e), fun z e => (by rw [h] at e; cases e; exact b)⟩
def l_holds {α : Type} (a : Nat → Option Nat) (LP : List Nat) (p : Nat → α) (c : Nat) (b : Nat → α) : Prop :=
  ∀ j, j < c → ∃ y, a j = some y ∧ y ∈ LP ∧ p y = b j
theorem l_holds_0 {α : Type} {a : Nat → Option Nat} {LP : List Nat} {p b : Nat → α} : l_holds a LP p 0 b := fun j h => absurd h (Nat.not_lt_zero j)
theorem l_in_new (LP : List Nat) (q : Nat) : q ∈ LP ++ [q] := List.mem_append.mpr (Or.inr (List.mem_singleton.mpr rfl))
def l_sum (b : Nat → Int32) : Nat → Int32
  | 0 => 0
  | k + 1 => l_sum b k + b k
theorem sb_shr0 (x : Int32) : x >>> ((0 : Int32) &&& 31) = x := by
  rw [show ((0 : Int32) &&& 31) = 0 by decide]
  simp
theorem sb_shl0 (x : Int32) : x <<< ((0 : Int32) &&& 31) = x := by
  rw [show ((0 : Int32) &&& 31) = 0 by decide]
  simp
theorem sb_cl0 : (0 : Int32).toNatClampNeg = 0 := by decide
theorem sb_m1 {p : Nat} (h : 0 < p) : nI p + (-1) = nI (p - 1) := by
  obtain ⟨q, rfl⟩ : ∃ q, p = q + 1 := ⟨p - 1, by omega⟩
  exact pk_m1 q
def sb_b (c : Nat) : Int32 := (nI c).toInt8.toInt32
theorem sb_byte : ∀ c, c < 256 → sb_b c &&& 255 = nI c ∧ ((nI c).toUInt32 % 65536).toInt32 = nI c ∧ nI c ≤ 255 := by decide +kernel
def sb_Fit (a : Nat → Int32) : Prop := ∀ j, fits .byte (.int (a j)) = true
def sb_Lat (t : Nat → Nat) (n : Nat) (a : Nat → Int32) : Prop := ∀ j, j < n → t j < 256 ∧ a j = sb_b (t j)
theorem sb_fitB (c : Nat) : fits .byte (.int (sb_b c)) = true := pk_fb _
theorem sb_fit0 : sb_Fit (fun _ => 0) := fun _ => by
  show fits .byte (.int 0) = true
  decide
theorem sb_fitU {a : Nat → Int32} {k : Nat} {x : Int32} (h : sb_Fit a) (hx : fits .byte (.int x) = true) : sb_Fit (upd a k x) := by
  intro j
  by_cases e : j = k
  · subst e
    rw [pk_us]
    exact hx
  · rw [pk_un e]
    exact h j
def sb_cat (t : Nat → Nat) (n : Nat) (s : Nat → Nat) : Nat → Nat := fun j => if j < n then t j else s (j - n)
theorem sb_cat_lo {t s : Nat → Nat} {n j : Nat} (h : j < n) : sb_cat t n s j = t j := if_pos h
theorem sb_cat_hi {t s : Nat → Nat} {n j : Nat} : sb_cat t n s (n + j) = s j := by
  show (if n + j < n then t (n + j) else s (n + j - n)) = s j
  rw [if_neg (by omega), Nat.add_sub_cancel_left]
theorem sb_latPut {t s : Nat → Nat} {n w : Nat} {a a' : Nat → Int32} (h : sb_Lat t n a) (hk : ∀ j, j < n → a' j = a j) (hs : ∀ i, i < w → s i < 256 ∧ a' (n + i) = sb_b (s i)) : sb_Lat (sb_cat t n s) (n + w) a' := by
  intro j hj
  by_cases e : j < n
  · rw [sb_cat_lo e, hk j e]
    exact h j e
  · obtain ⟨i, rfl⟩ : ∃ i, j = n + i := ⟨j - n, by omega⟩
    rw [sb_cat_hi]
    exact hs i (by omega)
theorem sb_latKeep {t : Nat → Nat} {n : Nat} {a a' : Nat → Int32} (h : sb_Lat t n a) (hk : ∀ j, j < n → a' j = a j) : sb_Lat t n a' := fun j hj => by
  rw [hk j hj]
  exact h j hj
def sb_cap (q m : Nat) : Nat := if q ≤ m then m else if 2 * m + 2 < q then q else 2 * m + 2
def sb_Room (q m mc ms : Nat) : Prop := q ≤ m ∨ (1 ≤ mc ∧ sb_cap q m ≤ ms ∧ sb_cap q m ≤ 65536)
theorem sb_cap_ge (q m : Nat) : q ≤ sb_cap q m := by
  unfold sb_cap
  split
  · omega
  · split <;> omega
theorem sb_cap_gem (q m : Nat) : m ≤ sb_cap q m := by
  unfold sb_cap
  split
  · omega
  · split <;> omega
theorem sb_cap_le {q m mc ms : Nat} (hm : m ≤ 65536) (hr : sb_Room q m mc ms) : sb_cap q m ≤ 65536 := by
  rcases hr with h | h
  · rw [sb_cap, if_pos h]
    exact hm
  · exact h.2.2
theorem sb_at {P : Int32 → Prop} {x y : Int32} (e : x = y) (h : P y) : P x := e ▸ h
def sb_dg (w : Nat) : Nat := if w < 10 then 1 else if w < 100 then 2 else if w < 1000 then 3 else if w < 10000 then 4 else if w < 100000 then 5 else if w < 1000000 then 6 else if w < 10000000 then 7 else if w < 100000000 then 8 else if w < 1000000000 then 9 else 10
def sb_dec (v : Nat) : Nat → Nat := fun i => 48 + v / 10 ^ (sb_dg v - 1 - i) % 10
theorem sb_dg_in (w : Nat) : 1 ≤ sb_dg w ∧ sb_dg w ≤ 10 := by
  unfold sb_dg
  constructor <;> (repeat' split) <;> omega
theorem sb_dg100 {w : Nat} (h : 100 ≤ w) (hw : w < 2 ^ 31) : sb_dg w = sb_dg (w / 100) + 2 := by
  rw [sb_dg, sb_dg, if_neg (show ¬ w < 10 by omega), if_neg (show ¬ w < 100 by omega)]
  by_cases h3 : w < 1000
  · rw [if_pos h3, if_pos (show w / 100 < 10 by omega)]
  rw [if_neg h3, if_neg (show ¬ w / 100 < 10 by omega)]
  by_cases h4 : w < 10000
  · rw [if_pos h4, if_pos (show w / 100 < 100 by omega)]
  rw [if_neg h4, if_neg (show ¬ w / 100 < 100 by omega)]
  by_cases h5 : w < 100000
  · rw [if_pos h5, if_pos (show w / 100 < 1000 by omega)]
  rw [if_neg h5, if_neg (show ¬ w / 100 < 1000 by omega)]
  by_cases h6 : w < 1000000
  · rw [if_pos h6, if_pos (show w / 100 < 10000 by omega)]
  rw [if_neg h6, if_neg (show ¬ w / 100 < 10000 by omega)]
  by_cases h7 : w < 10000000
  · rw [if_pos h7, if_pos (show w / 100 < 100000 by omega)]
  rw [if_neg h7, if_neg (show ¬ w / 100 < 100000 by omega)]
  by_cases h8 : w < 100000000
  · rw [if_pos h8, if_pos (show w / 100 < 1000000 by omega)]
  rw [if_neg h8, if_neg (show ¬ w / 100 < 1000000 by omega)]
  by_cases h9 : w < 1000000000
  · rw [if_pos h9, if_pos (show w / 100 < 10000000 by omega)]
  rw [if_neg h9, if_neg (show ¬ w / 100 < 10000000 by omega)]
  rw [if_pos (show w / 100 < 100000000 by omega)]
theorem sb_negT {w : Nat} (h : w < 2 ^ 31) : (-nI w).toInt = -(w : Int) := by
  rw [Int32.toInt_neg, nI_toInt h]
  exact Int.bmod_eq_of_le (by omega) (by omega)
theorem sb_nle {a b : Nat} (ha : a < 2 ^ 31) (hb : b < 2 ^ 31) : -nI a ≤ -nI b ↔ b ≤ a := by
  rw [Int32.le_iff_toInt_le, sb_negT ha, sb_negT hb]
  omega
theorem sb_nlt {a b : Nat} (ha : a < 2 ^ 31) (hb : b < 2 ^ 31) : -nI a < -nI b ↔ b < a := by
  rw [Int32.lt_iff_toInt_lt, sb_negT ha, sb_negT hb]
  omega
theorem sb_cmp {A B : Prop} {x : Int32} (v c : Nat) (f : c ≤ v → A) (g : v < c → B) (hv : v < 2 ^ 31) (hx : x = -nI c := by rfl) (hc : c < 2 ^ 31 := by omega) : (-nI v ≤ x → A) ∧ (¬ -nI v ≤ x → B) := by
  subst hx
  rw [sb_nle hv hc]
  exact ⟨f, fun z => g (by omega)⟩
theorem sb_ndiv {w : Nat} (hw : w < 2 ^ 31) : (-nI w) / 100 = -nI (w / 100) := by
  apply Int32.toInt_inj.mp
  have h100 : (100 : Int32).toInt = 100 := by decide
  rw [Int32.toInt_div, sb_negT hw, h100, sb_negT (by omega), Int.neg_tdiv, Int.tdiv_eq_ediv_of_nonneg (by omega), Int.bmod_eq_of_le (by omega) (by omega)]
  omega
theorem sb_nrem {w : Nat} (hw : w < 2 ^ 31) : (-nI (w / 100)) * 100 - (-nI w) = nI (w % 100) := by
  have h := pk_rem (a := w) (d := 100) hw (by decide) (by decide)
  rw [pk_div hw (by decide) (by decide)] at h
  rw [← h]
  show (-nI (w / 100)) * nI 100 - (-nI w) = nI w - nI (w / 100) * nI 100
  rw [Int32.neg_mul, Int32.sub_neg, Int32.add_comm, ← Int32.sub_eq_add_neg]
/-! rows on bits, shifts and unsigned numbers, to paste: each family out of a closed proof of our own, whole with what it rests on; each by itself clean at Lean in its own claim (generation 39, form 5). Take a family whole -/
/-! ===== Int32 by its bits: bt x i ===== -/
def bt (x : Int32) (i : Nat) : Bool := x.toBitVec.getLsbD i
theorem b_ext {x y : Int32} (h : ∀ i, i < 32 → bt x i = bt y i) : x = y := Int32.toBitVec_inj.mp (BitVec.eq_of_getLsbD_eq (fun i hi => h i hi))
theorem b_or (x y : Int32) (i : Nat) : bt (x ||| y) i = (bt x i || bt y i) := by unfold bt; rw [Int32.toBitVec_or, BitVec.getLsbD_or]
theorem b_and (x y : Int32) (i : Nat) : bt (x &&& y) i = (bt x i && bt y i) := by unfold bt; rw [Int32.toBitVec_and, BitVec.getLsbD_and]
theorem b_xor (x y : Int32) (i : Nat) : bt (x ^^^ y) i = (bt x i ^^ bt y i) := by unfold bt; rw [Int32.toBitVec_xor, BitVec.getLsbD_xor]
theorem b_big {x : Int32} {i : Nat} (h : 32 ≤ i) : bt x i = false := BitVec.getLsbD_of_ge _ _ h
theorem b_255 (i : Nat) : bt 255 i = decide (i < 8) := by
  rcases Nat.lt_or_ge i 32 with h | h
  · exact (by decide +kernel : ∀ i, i < 32 → bt 255 i = decide (i < 8)) i h
  · rw [b_big h, decide_eq_false (by omega)]
theorem b_65535 (i : Nat) : bt 65535 i = decide (i < 16) := by
  rcases Nat.lt_or_ge i 32 with h | h
  · exact (by decide +kernel : ∀ i, i < 32 → bt 65535 i = decide (i < 16)) i h
  · rw [b_big h, decide_eq_false (by omega)]
theorem b_m1 : ∀ i, i < 32 → bt (-1) i = true := by decide +kernel
theorem b_0 (i : Nat) : bt 0 i = false := BitVec.getLsbD_zero
theorem s_l : ∀ n, n < 32 → ((nI n &&& 31).toBitVec.smod 32).toNat = n := by decide +kernel
theorem s_u : ∀ n, n < 32 → (((nI n).toUInt32 &&& Int32.toUInt32 31).toBitVec % 32).toNat = n := by decide +kernel
theorem b_shl (n : Nat) (hn : n < 32) (x : Int32) {i : Nat} (hi : i < 32) : bt (x <<< (nI n &&& 31)) i = (decide (n ≤ i) && bt x (i - n)) := by
  unfold bt
  rw [Int32.toBitVec_shiftLeft]
  show (x.toBitVec <<< ((nI n &&& 31).toBitVec.smod 32).toNat).getLsbD i = _
  rw [s_l n hn, BitVec.getLsbD_shiftLeft]
  rcases Nat.lt_or_ge i n with h | h
  · simp [h, Nat.not_le.mpr h]
  · simp [hi, h, Nat.not_lt.mpr h]
theorem b_ushr (n : Nat) (hn : n < 32) (x : Int32) (i : Nat) : bt ((x.toUInt32 >>> ((nI n).toUInt32 &&& Int32.toUInt32 31)).toInt32) i = bt x (n + i) := by
  show (x.toUInt32 >>> ((nI n).toUInt32 &&& Int32.toUInt32 31)).toBitVec.getLsbD i = x.toUInt32.toBitVec.getLsbD (n + i)
  rw [UInt32.toBitVec_shiftRight]
  show (x.toUInt32.toBitVec >>> (((nI n).toUInt32 &&& Int32.toUInt32 31).toBitVec % 32).toNat).getLsbD i = _
  rw [s_u n hn, BitVec.getLsbD_ushiftRight]
theorem b_sshr (n : Nat) (hn : n < 32) (x : Int32) {i : Nat} (hi : i < 32) : bt (x >>> (nI n &&& 31)) i = if n + i < 32 then bt x (n + i) else bt x 31 := by
  unfold bt
  rw [Int32.toBitVec_shiftRight]
  show (x.toBitVec.sshiftRight ((nI n &&& 31).toBitVec.smod 32).toNat).getLsbD i = _
  rw [s_l n hn, BitVec.getLsbD_sshiftRight, BitVec.msb_eq_getLsbD_last]
  simp [hi]
theorem b_shl8 (x : Int32) {i : Nat} (hi : i < 32) : bt (x <<< ((8 : Int32) &&& 31)) i = (decide (8 ≤ i) && bt x (i - 8)) := b_shl 8 (by omega) x hi
theorem b_shl16 (x : Int32) {i : Nat} (hi : i < 32) : bt (x <<< ((16 : Int32) &&& 31)) i = (decide (16 ≤ i) && bt x (i - 16)) := b_shl 16 (by omega) x hi
theorem b_shl24 (x : Int32) {i : Nat} (hi : i < 32) : bt (x <<< ((24 : Int32) &&& 31)) i = (decide (24 ≤ i) && bt x (i - 24)) := b_shl 24 (by omega) x hi
theorem b_sshr8 (x : Int32) {i : Nat} (hi : i < 32) : bt (x >>> ((8 : Int32) &&& 31)) i = if 8 + i < 32 then bt x (8 + i) else bt x 31 := b_sshr 8 (by omega) x hi
/-! ===== nI under and, xor, >>>, one bit, 65535 ===== -/
theorem nx_and (a b : Nat) : nI a &&& nI b = nI (a &&& b) := by
  apply Int32.toBitVec_inj.1
  show BitVec.ofNat 32 a &&& BitVec.ofNat 32 b = BitVec.ofNat 32 (a &&& b)
  apply BitVec.eq_of_getLsbD_eq
  intro i hi
  simp [hi]
theorem nx_xor (a b : Nat) : nI a ^^^ nI b = nI (a ^^^ b) := by
  apply Int32.toBitVec_inj.1
  show BitVec.ofNat 32 a ^^^ BitVec.ofNat 32 b = BitVec.ofNat 32 (a ^^^ b)
  apply BitVec.eq_of_getLsbD_eq
  intro i hi
  simp [hi]
theorem nx_cnt : ∀ j : Fin 32, (UInt32.ofNat j.val &&& Int32.toUInt32 31).toNat % 32 = j.val := by decide +kernel
theorem nx_ush {k j : Nat} (hk : k < 65536) (hj : j < 32) : ((nI k).toUInt32 >>> ((nI j).toUInt32 &&& Int32.toUInt32 31)).toInt32 = nI (k >>> j) := by
  have hs : k >>> j ≤ k := by
    rw [Nat.shiftRight_eq_div_pow]
    exact Nat.div_le_self _ _
  have e2 : UInt32.ofNat k >>> (UInt32.ofNat j &&& Int32.toUInt32 31) = UInt32.ofNat (k >>> j) := by
    apply UInt32.toNat_inj.1
    have h1 : (UInt32.ofNat k).toNat = k := Nat.mod_eq_of_lt (by omega)
    have h2 : (UInt32.ofNat (k >>> j)).toNat = k >>> j := Nat.mod_eq_of_lt (by omega)
    rw [UInt32.toNat_shiftRight, nx_cnt ⟨j, hj⟩, h1, h2]
  show (UInt32.ofNat k >>> (UInt32.ofNat j &&& Int32.toUInt32 31)).toInt32 = _
  rw [e2]
  rfl
theorem nx_bit {k j : Nat} (hk : k < 65536) (hj : j < 16) : (((nI k).toUInt32 >>> ((nI j).toUInt32 &&& Int32.toUInt32 31)).toInt32 &&& 1) = 0 ↔ k.testBit j = false := by
  rw [nx_ush hk (by omega)]
  show nI (k >>> j) &&& nI 1 = 0 ↔ _
  rw [nx_and, Nat.and_one_is_mod, ← nI_0, nI_eq (by omega) (by omega), Nat.testBit_eq_decide_div_mod_eq, Nat.shiftRight_eq_div_pow, decide_eq_false_iff_not]
  generalize k / 2 ^ j = z
  omega
theorem nx_mod (k : Nat) : nI k &&& 65535 = nI (k % 65536) := by
  show nI k &&& nI 65535 = _
  rw [nx_and, show (65535 : Nat) = 2 ^ 16 - 1 from rfl, Nat.and_two_pow_sub_one_eq_mod]
theorem nx_m16 {k : Nat} (h : k < 65536) : nI k &&& 65535 = nI k := by rw [nx_mod, Nat.mod_eq_of_lt h]
theorem nx_mask (x : Int32) : ∃ k, k < 65536 ∧ x &&& 65535 = nI k := by
  have e : x = nI x.toBitVec.toNat := by
    apply Int32.toBitVec_inj.1
    show x.toBitVec = BitVec.ofNat 32 x.toBitVec.toNat
    simp
  refine ⟨x.toBitVec.toNat % 65536, Nat.mod_lt _ (by omega), ?_⟩
  rw [← nx_mod, ← e]
/-! ===== Int32 as a set of bits: test, set ===== -/
def nf_M (m : Int32) : Nat := 4294967296 - m.toBitVec.toNat
theorem nf_sh : ∀ l, l < 32 → ((1 : Int32) <<< (nI l &&& 31)).toBitVec = BitVec.twoPow 32 l := by decide +kernel
theorem nf_sl : ∀ l, l < 32 → (((nI l).toUInt32 &&& Int32.toUInt32 31).toBitVec % 32).toNat = l := by decide +kernel
theorem nf_tp : ∀ l, l < 32 → BitVec.twoPow 32 l ≠ 0#32 := by decide +kernel
theorem nf_bit (m : Int32) (l : Nat) (hl : l < 32) : ((m.toUInt32 >>> ((nI l).toUInt32 &&& Int32.toUInt32 31)).toInt32 &&& 1) = 0 ↔ (m &&& ((1 : Int32) <<< (nI l &&& 31))) = 0 := by
  have e : ((m.toUInt32 >>> ((nI l).toUInt32 &&& Int32.toUInt32 31)).toInt32).toBitVec = m.toBitVec >>> l := by
    show m.toBitVec >>> (((nI l).toUInt32 &&& Int32.toUInt32 31).toBitVec % 32) = m.toBitVec >>> l
    rw [BitVec.ushiftRight_eq', nf_sl l hl]
  rw [← Int32.toBitVec_inj, ← Int32.toBitVec_inj, Int32.toBitVec_and, Int32.toBitVec_and, nf_sh l hl, e, BitVec.and_twoPow]
  show (m.toBitVec >>> l &&& 1#32) = 0#32 ↔ _ = 0#32
  rw [BitVec.and_one_eq_setWidth_ofBool_getLsbD, BitVec.getLsbD_ushiftRight, Nat.add_zero]
  cases hb : m.toBitVec.getLsbD l
  · exact ⟨fun _ => by simp, fun _ => by decide⟩
  · exact ⟨fun z => absurd z (by decide), fun z => absurd ((if_pos rfl).symm.trans z) (nf_tp l hl)⟩
theorem nf_gr (m k : Int32) (h : m &&& k = 0) (hk : k ≠ 0) : nf_M (m ||| k) < nf_M m := by
  have hm := m.toBitVec.isLt
  have hm' := (m ||| k).toBitVec.isLt
  have h1 : m.toBitVec.toNat ≤ (m ||| k).toBitVec.toNat := by
    rw [Int32.toBitVec_or, BitVec.toNat_or]
    exact Nat.left_le_or
  have h2 : m.toBitVec.toNat ≠ (m ||| k).toBitVec.toNat := by
    intro e
    have e2 : m = m ||| k := Int32.toBitVec_inj.mp (BitVec.eq_of_toNat_eq e)
    apply hk
    apply Int32.toBitVec_inj.mp
    show k.toBitVec = 0#32
    apply BitVec.eq_of_getLsbD_eq
    intro i hi
    have a : m.toBitVec.getLsbD i = (m.toBitVec.getLsbD i || k.toBitVec.getLsbD i) := by rw [← BitVec.getLsbD_or, ← Int32.toBitVec_or, ← e2]
    have b : (m.toBitVec.getLsbD i && k.toBitVec.getLsbD i) = false := by
      rw [← BitVec.getLsbD_and, ← Int32.toBitVec_and, h]
      exact BitVec.getLsbD_zero
    rw [BitVec.getLsbD_zero]
    revert a b
    cases m.toBitVec.getLsbD i <;> cases k.toBitVec.getLsbD i <;> simp
  unfold nf_M
  omega
/-! ===== a byte read unsigned ===== -/
theorem bp_b (x : Int32) : x.toInt8.toInt32 &&& 255 = x &&& 255 := by
  apply Int32.toBitVec_inj.mp
  rw [Int32.toBitVec_and, Int32.toBitVec_and, Int8.toBitVec_toInt32, Int32.toBitVec_toInt8]
  apply BitVec.eq_of_getLsbD_eq
  intro i hi
  rw [BitVec.getLsbD_and, BitVec.getLsbD_and]
  have hm : ∀ i < 32, 8 ≤ i → (255 : Int32).toBitVec.getLsbD i = false := by decide
  rcases Nat.lt_or_ge i 8 with z | z
  · rw [BitVec.getLsbD_signExtend, BitVec.getLsbD_signExtend, if_pos z, if_pos hi]
    simp only [z, hi, decide_true, Bool.true_and]
  · rw [hm i hi z]; simp
/-! ===== the char cast and 65535 ===== -/
theorem em_w (v : Int32) : ∃ w : Nat, w < 65536 ∧ (v.toUInt32 % 65536).toInt32 = nI w ∧ v &&& 65535 = nI w := by
  have hr := lw_u16_r v
  have h0 : (0 : Int32).toInt = 0 := by decide
  obtain ⟨w, h1, h2⟩ := nI_of (x := lw_u16 v) (by rw [Int32.lt_iff_toInt_lt]; omega)
  have h3 : (v.toUInt32 % 65536).toInt32 = nI w := h2
  rw [h2, nI_toInt h1] at hr
  exact ⟨w, by omega, h3, by rw [← lg_i2c_mask, ← lg_i2c_nf, h3]⟩
/-! ===== Int64 as a set of bits: test, set, clear ===== -/
theorem ts_nf {x : Bool} (h : ¬ x = false) : x = true := by cases x <;> first | rfl | exact absurd rfl h
theorem ts_nt {x : Bool} (h : ¬ x = true) : x = false := by cases x <;> first | rfl | exact absurd rfl h
theorem ts_bit {w : Int64} {s : UInt64} {j : Nat} (hj : j < 64) (hs : s.toNat = j) : ((w.toUInt64 >>> s).toInt64 &&& 1) = 0 ↔ w.toBitVec.getLsbD j = false := by
  have e : (w.toUInt64 >>> s).toInt64.toBitVec = w.toBitVec >>> j := by
    apply BitVec.eq_of_toNat_eq
    show (w.toUInt64 >>> s).toNat = _
    rw [UInt64.toNat_shiftRight, hs, Nat.mod_eq_of_lt hj, BitVec.toNat_ushiftRight]
    rfl
  rw [← Int64.toBitVec_inj, Int64.toBitVec_and, e]
  show w.toBitVec >>> j &&& 1#64 = 0#64 ↔ _
  constructor
  · intro h
    have t := congrArg (fun x => x.getLsbD 0) h
    simpa using t
  · intro h
    apply BitVec.eq_of_getLsbD_eq
    intro i hi
    cases i with
    | zero => simp [h]
    | succ i => simp
theorem ts_or {w m : Int64} {j : Nat} (hj : j < 64) (hm : m.toBitVec = BitVec.twoPow 64 j) : (w ||| m) = w ↔ w.toBitVec.getLsbD j = true := by
  rw [← Int64.toBitVec_inj, Int64.toBitVec_or, hm]
  constructor
  · intro h
    have t := congrArg (fun x => x.getLsbD j) h
    simp only [BitVec.getLsbD_or, BitVec.getLsbD_twoPow] at t
    simpa [hj] using t.symm
  · intro h
    apply BitVec.eq_of_getLsbD_eq
    intro i hi
    rw [BitVec.getLsbD_or, BitVec.getLsbD_twoPow]
    by_cases e : j = i
    · subst e; rw [h, Bool.true_or]
    · simp [e]
theorem ts_and {w m : Int64} {j : Nat} (hj : j < 64) (hm : m.toBitVec = BitVec.twoPow 64 j) : (w &&& (m ^^^ (-1))) = w ↔ w.toBitVec.getLsbD j = false := by
  have ha : (-1 : Int64).toBitVec = BitVec.allOnes 64 := by decide
  rw [← Int64.toBitVec_inj, Int64.toBitVec_and, Int64.toBitVec_xor, hm, ha]
  constructor
  · intro h
    have t := congrArg (fun x => x.getLsbD j) h
    simp only [BitVec.getLsbD_and, BitVec.getLsbD_xor, BitVec.getLsbD_twoPow, BitVec.getLsbD_allOnes] at t
    simpa [hj] using t.symm
  · intro h
    apply BitVec.eq_of_getLsbD_eq
    intro i hi
    rw [BitVec.getLsbD_and, BitVec.getLsbD_xor, BitVec.getLsbD_twoPow, BitVec.getLsbD_allOnes]
    by_cases e : j = i
    · subst e; rw [h, Bool.false_and]
    · simp [e, hi]
/-! ===== lN n to 2^64: shifts, and, or, masks, one bit ===== -/
theorem wb_tb (n : Nat) : (lN n).toBitVec = BitVec.ofNat 64 n := rfl
theorem wb_inj {a b : Int64} (h : a.toBitVec = b.toBitVec) : a = b := Int64.toBitVec_inj.mp h
theorem wb_tn {n : Nat} (h : n < 2 ^ 64) : (lN n).toBitVec.toNat = n := by rw [wb_tb, BitVec.toNat_ofNat, Nat.mod_eq_of_lt h]
theorem wb_of (x : Int64) : ∃ n, n < 2 ^ 64 ∧ x = lN n := ⟨x.toBitVec.toNat, x.toBitVec.isLt, wb_inj (by rw [wb_tb]; simp)⟩
theorem wb_of32 (x : Int32) : ∃ n, n < 2 ^ 32 ∧ x = nI n := ⟨x.toBitVec.toNat, x.toBitVec.isLt, Int32.toBitVec_inj.mp (by show _ = BitVec.ofNat 32 _; simp)⟩
theorem wb_c : ∀ k, k < 64 → ((nI k).toInt64 &&& 63) = lN k := by decide +kernel
theorem wb_cu : ∀ k, k < 64 → ((nI k).toInt64.toUInt64 &&& Int64.toUInt64 63) = UInt64.ofNat k := by decide +kernel
theorem wb_sm : ∀ k, k < 64 → (BitVec.ofNat 64 k).smod 64 = BitVec.ofNat 64 k := by decide +kernel
theorem wb_pw {a b : Nat} (h : a ≤ b) : 2 ^ b = 2 ^ a * 2 ^ (b - a) := by rw [← Nat.pow_add]; congr 1; omega
theorem wb_lt2 {a b : Nat} (h : a < b) : 2 ^ a < 2 ^ b := Nat.pow_lt_pow_right (by decide) h
theorem wb_mod (n : Nat) : lN n = lN (n % 2 ^ 64) := wb_inj (by rw [wb_tb, wb_tb]; apply BitVec.eq_of_toNat_eq; rw [BitVec.toNat_ofNat, BitVec.toNat_ofNat, Nat.mod_mod])
theorem wb_shr {n k : Nat} (hn : n < 2 ^ 64) (hk : k < 64) : ((lN n).toUInt64 >>> ((nI k).toInt64.toUInt64 &&& Int64.toUInt64 63)).toInt64 = lN (n / 2 ^ k) := by
  rw [wb_cu k hk]
  apply wb_inj
  apply BitVec.eq_of_toNat_eq
  show ((lN n).toUInt64 >>> UInt64.ofNat k).toNat = (BitVec.ofNat 64 _).toNat
  have h1 : (UInt64.ofNat k).toNat = k := by
    show (BitVec.ofNat 64 k).toNat = k
    rw [BitVec.toNat_ofNat, Nat.mod_eq_of_lt (by omega)]
  have h2 : (lN n).toUInt64.toNat = n := wb_tn hn
  rw [UInt64.toNat_shiftRight, h1, h2, Nat.mod_eq_of_lt hk, Nat.shiftRight_eq_div_pow, BitVec.toNat_ofNat, Nat.mod_eq_of_lt (Nat.lt_of_le_of_lt (Nat.div_le_self _ _) hn)]
theorem wb_shl (n : Nat) {k : Nat} (hk : k < 64) : lN n <<< ((nI k).toInt64 &&& 63) = lN (n * 2 ^ k) := by
  rw [wb_c k hk]
  apply wb_inj
  rw [Int64.toBitVec_shiftLeft, wb_tb, wb_tb, wb_tb, wb_sm k hk]
  apply BitVec.eq_of_toNat_eq
  rw [BitVec.shiftLeft_eq', BitVec.toNat_shiftLeft, BitVec.toNat_ofNat, BitVec.toNat_ofNat, BitVec.toNat_ofNat, Nat.mod_eq_of_lt (show k < 2 ^ 64 by omega), Nat.shiftLeft_eq, Nat.mul_mod, Nat.mod_mod, ← Nat.mul_mod]
theorem wb_and {a b : Nat} (ha : a < 2 ^ 64) (hb : b < 2 ^ 64) : lN a &&& lN b = lN (a &&& b) := by
  apply wb_inj
  rw [Int64.toBitVec_and, wb_tb, wb_tb, wb_tb]
  apply BitVec.eq_of_toNat_eq
  rw [BitVec.toNat_and, BitVec.toNat_ofNat, BitVec.toNat_ofNat, BitVec.toNat_ofNat, Nat.mod_eq_of_lt ha, Nat.mod_eq_of_lt hb, Nat.mod_eq_of_lt (Nat.and_lt_two_pow _ hb)]
theorem wb_or {a b : Nat} (ha : a < 2 ^ 64) (hb : b < 2 ^ 64) : lN a ||| lN b = lN (a ||| b) := by
  apply wb_inj
  rw [Int64.toBitVec_or, wb_tb, wb_tb, wb_tb]
  apply BitVec.eq_of_toNat_eq
  rw [BitVec.toNat_or, BitVec.toNat_ofNat, BitVec.toNat_ofNat, BitVec.toNat_ofNat, Nat.mod_eq_of_lt ha, Nat.mod_eq_of_lt hb, Nat.mod_eq_of_lt (Nat.or_lt_two_pow ha hb)]
theorem wb_mask {n k : Nat} (hn : n < 2 ^ 64) (hk : k < 64) : lN n &&& lN (2 ^ k - 1) = lN (n % 2 ^ k) := by
  rw [wb_and hn (by have := wb_lt2 hk; omega), Nat.and_two_pow_sub_one_eq_mod]
theorem wb_a1 {n : Nat} (hn : n < 2 ^ 64) : lN n &&& 1 = lN (n % 2) := wb_mask (k := 1) hn (by decide)
theorem wb_bit {n k : Nat} (hn : n < 2 ^ 64) (hk : k < 64) : ((lN n).toUInt64 >>> ((nI k).toInt64.toUInt64 &&& Int64.toUInt64 63)).toInt64 &&& 1 = lN (n / 2 ^ k % 2) := by
  rw [wb_shr hn hk, wb_a1 (Nat.lt_of_le_of_lt (Nat.div_le_self _ _) hn)]
theorem wb_xor {q k : Nat} (hk : k < 63) (h : 2 ^ k ≤ q) (h2 : q < 2 ^ (k + 1)) : lN q ^^^ lN (2 ^ k) = lN (q - 2 ^ k) := by
  obtain ⟨r, rfl⟩ : ∃ r, q = 2 ^ k + r := ⟨q - 2 ^ k, by omega⟩
  have hr : r < 2 ^ k := by rw [Nat.pow_succ] at h2; omega
  have hx : (2 ^ k + r) ^^^ 2 ^ k = r := by
    apply Nat.eq_of_testBit_eq
    intro i
    rw [Nat.testBit_xor, Nat.testBit_two_pow]
    rcases Nat.lt_trichotomy i k with h | h | h
    · rw [Nat.testBit_two_pow_add_gt h]
      simp [show ¬ k = i by omega]
    · subst h
      rw [Nat.testBit_two_pow_add_eq]
      simp
    · have a1 : 2 ^ (k + 1) ≤ 2 ^ i := Nat.pow_le_pow_right (by decide) h
      rw [Nat.testBit_lt_two_pow (show 2 ^ k + r < 2 ^ i by omega), Nat.testBit_lt_two_pow (show r < 2 ^ i by omega)]
      simp [show ¬ k = i by omega]
  have b1 := wb_lt2 (show k + 1 < 64 by omega)
  have b2 := wb_lt2 (show k < 64 by omega)
  apply wb_inj
  rw [Int64.toBitVec_xor, wb_tb, wb_tb, wb_tb]
  apply BitVec.eq_of_toNat_eq
  rw [BitVec.toNat_xor, BitVec.toNat_ofNat, BitVec.toNat_ofNat, BitVec.toNat_ofNat, Nat.mod_eq_of_lt (by omega : 2 ^ k + r < 2 ^ 64), Nat.mod_eq_of_lt b2, hx, Nat.add_sub_cancel_left, Nat.mod_eq_of_lt (by omega)]
/-! ===== lN: masks, 'or' of parts that don't overlap is a sum ===== -/
theorem u_tn {n : Nat} (h : n < 2 ^ 64) : (UInt64.ofNat n).toNat = n := Nat.mod_eq_of_lt h
theorem g_and {a b c : Nat} (ha : a < 2 ^ 64) (hb : b < 2 ^ 64) (hc : a &&& b = c) : lN a &&& lN b = lN c := by
  subst hc
  have h : UInt64.ofNat a &&& UInt64.ofNat b = UInt64.ofNat (a &&& b) := UInt64.toNat_inj.mp (by rw [UInt64.toNat_and, u_tn ha, u_tn hb, u_tn (Nat.and_lt_two_pow a hb)])
  have h2 := congrArg UInt64.toInt64 h
  exact h2
theorem g_and1 {a : Nat} (ha : a < 2 ^ 64) : lN a &&& 1 = lN (a % 2) := g_and (b := 1) ha (by decide) (Nat.and_two_pow_sub_one_eq_mod a 1)
theorem g_mask {a s p : Nat} (hp : 2 ^ s = p) (hs : s < 64) (ha : a < 2 ^ 64) : lN a &&& lN (p - 1) = lN (a % p) := by
  subst hp
  have := Nat.pow_lt_pow_right (show 1 < 2 by decide) hs
  exact g_and ha (by omega) (Nat.and_two_pow_sub_one_eq_mod a s)
theorem g_or {k p a b : Nat} (hp : 2 ^ k = p) (ha : a < p) (h : b * p + a < 2 ^ 64) : lN (b * p) ||| lN a = lN (b * p + a) := by
  subst hp
  have h1 : b * 2 ^ k ||| a = b * 2 ^ k + a := by rw [← Nat.shiftLeft_eq, Nat.shiftLeft_add_eq_or_of_lt ha]
  have h3 : UInt64.ofNat (b * 2 ^ k) ||| UInt64.ofNat a = UInt64.ofNat (b * 2 ^ k + a) := UInt64.toNat_inj.mp (by rw [UInt64.toNat_or, u_tn (by omega), u_tn (by omega), u_tn h, h1])
  have h2 := congrArg UInt64.toInt64 h3
  exact h2
theorem g_or' {k p a b : Nat} (hp : 2 ^ k = p) (ha : a < p) (h : a + b * p < 2 ^ 64) : lN a ||| lN (b * p) = lN (a + b * p) := by
  rw [Int64.or_comm, g_or hp ha (by omega), Nat.add_comm]
theorem g_ushr {a k p : Nat} {y : UInt64} (hy : y = UInt64.ofNat k) (hk : k < 64) (hp : 2 ^ k = p) (ha : a < 2 ^ 64) : ((lN a).toUInt64 >>> y).toInt64 = lN (a / p) := by
  subst hy hp
  have h : UInt64.ofNat a >>> UInt64.ofNat k = UInt64.ofNat (a / 2 ^ k) := UInt64.toNat_inj.mp (by rw [UInt64.toNat_shiftRight, u_tn ha, u_tn (by omega), u_tn (Nat.lt_of_le_of_lt (Nat.div_le_self _ _) ha), Nat.mod_eq_of_lt hk, Nat.shiftRight_eq_div_pow])
  have h2 := congrArg UInt64.toInt64 h
  exact h2
theorem g_shl {a k p : Nat} {y : Int64} (hy : y.toBitVec.smod 64 = BitVec.ofNat 64 k) (hk : k < 64) (hp : 2 ^ k = p) (ha : a < 2 ^ 64) : lN a <<< y = lN (a * p) := by
  subst hp
  apply Int64.toBitVec_inj.mp
  rw [Int64.toBitVec_shiftLeft, hy]
  apply BitVec.eq_of_toNat_eq
  have hb : (lN a).toBitVec.toNat = a := Nat.mod_eq_of_lt ha
  have hk' : (BitVec.ofNat 64 k).toNat = k := Nat.mod_eq_of_lt (by omega)
  have h : ((lN a).toBitVec <<< BitVec.ofNat 64 k).toNat = (a * 2 ^ k) % 2 ^ 64 := by simp only [BitVec.shiftLeft_eq', BitVec.toNat_shiftLeft, hb, hk', Nat.shiftLeft_eq]
  exact h
/-! ===== lN to 2^62 under >> and >>> ===== -/
theorem pf_lI {a : Nat} (h : a < 2 ^ 63) : (lN a).toInt = (a : Int) := lg_ofNat_toInt h
theorem pf_shr {a d : Nat} {D : Int64} (hD : (D.toBitVec.smod 64).toNat = d) (h : a < 2 ^ 62) : lN a >>> D = lN (a / 2 ^ d) := by
  have hd : a / 2 ^ d ≤ a := Nat.div_le_self _ _
  apply Int64.toInt_inj.mp
  have e : (lN a >>> D).toInt = (lN a).toInt >>> d := by
    rw [← hD]
    exact BitVec.toInt_sshiftRight ..
  rw [e, Int.shiftRight_eq_div_pow, pf_lI (by omega), pf_lI (by omega)]
  rfl
theorem pf_ushr {a d : Nat} {D : UInt64} (hD : D.toNat % 64 = d) (h : a < 2 ^ 62) : ((lN a).toUInt64 >>> D).toInt64 = lN (a / 2 ^ d) := by
  have hd : a / 2 ^ d ≤ a := Nat.div_le_self _ _
  have e : (lN a).toUInt64 >>> D = UInt64.ofNat (a / 2 ^ d) := UInt64.toNat_inj.mp (by
    rw [UInt64.toNat_shiftRight, hD, Nat.shiftRight_eq_div_pow, UInt64.toNat_ofNat']
    show (UInt64.ofNat a).toNat / 2 ^ d = _
    rw [UInt64.toNat_ofNat', Nat.mod_eq_of_lt (by omega), Nat.mod_eq_of_lt (by omega)])
  rw [e]
  rfl
theorem pf_andw (x : Int64) : ∃ m, m < 2 ^ 32 ∧ x &&& 4294967295 = lN m := ⟨x.toBitVec.toNat % 2 ^ 32, Nat.mod_lt _ (by decide), Int64.toBitVec_inj.mp (BitVec.eq_of_toNat_eq (by
  show (x.toBitVec &&& 4294967295#64).toNat = (BitVec.ofNat 64 (x.toBitVec.toNat % 2 ^ 32)).toNat
  rw [BitVec.toNat_and, show (4294967295#64).toNat = 2 ^ 32 - 1 from by decide, Nat.and_two_pow_sub_one_eq_mod, BitVec.toNat_ofNat]
  omega))⟩
/-! ===== Int64 as an unsigned number: uN x ===== -/
def uN (x : Int64) : Nat := x.toUInt64.toNat
theorem uN_lt (x : Int64) : uN x < 18446744073709551616 := x.toUInt64.toNat_lt
theorem uN_inj {x y : Int64} (h : uN x = uN y) : x = y := congrArg UInt64.toInt64 (UInt64.toNat_inj.mp h)
theorem uN_add (x y : Int64) : uN (x + y) = (uN x + uN y) % 18446744073709551616 := by
  show (x.toUInt64 + y.toUInt64).toNat = _
  exact UInt64.toNat_add _ _
theorem uN_mul (x y : Int64) : uN (x * y) = (uN x * uN y) % 18446744073709551616 := by
  show (x.toUInt64 * y.toUInt64).toNat = _
  exact UInt64.toNat_mul _ _
theorem uN_shl (x : Int64) : uN (x <<< ((1 : Int32).toInt64 &&& 63)) = (2 * uN x) % 18446744073709551616 := by
  have h : (((1 : Int32).toInt64 &&& 63).toBitVec.smod 64).toNat = 1 := by decide
  show (x.toBitVec <<< (((1 : Int32).toInt64 &&& 63).toBitVec.smod 64).toNat).toNat = _
  rw [h, BitVec.toNat_shiftLeft, Nat.shiftLeft_eq, Nat.mul_comm]
  rfl
theorem uN_shr (x : Int64) (s : UInt64) : uN (x.toUInt64 >>> s).toInt64 = uN x / 2 ^ (s.toNat % 64) := by
  show (x.toUInt64 >>> s).toNat = _
  rw [UInt64.toNat_shiftRight, Nat.shiftRight_eq_div_pow]
  rfl
theorem uN_s32 (x : Int64) : uN (x.toUInt64 >>> ((32 : Int32).toInt64.toUInt64 &&& Int64.toUInt64 63)).toInt64 = uN x / 4294967296 := by
  have h : ((32 : Int32).toInt64.toUInt64 &&& Int64.toUInt64 63).toNat % 64 = 32 := by decide
  rw [uN_shr, h]
theorem uN_s63 (x : Int64) : uN (x.toUInt64 >>> ((63 : Int32).toInt64.toUInt64 &&& Int64.toUInt64 63)).toInt64 = uN x / 9223372036854775808 := by
  have h : ((63 : Int32).toInt64.toUInt64 &&& Int64.toUInt64 63).toNat % 64 = 63 := by decide
  rw [uN_shr, h]
theorem uN_lo (x : Int64) : uN (x &&& 4294967295) = uN x % 4294967296 := by
  show (x.toUInt64 &&& Int64.toUInt64 4294967295).toNat = _
  rw [UInt64.toNat_and]
  exact Nat.and_two_pow_sub_one_eq_mod _ 32
theorem uN_bit (x : Int64) : (x &&& 1) = 0 ↔ uN x % 2 = 0 := by
  have h : uN (x &&& 1) = uN x % 2 := by
    show (x.toUInt64 &&& Int64.toUInt64 1).toNat = _
    rw [UInt64.toNat_and]
    exact Nat.and_two_pow_sub_one_eq_mod _ 1
  rw [← h]
  exact ⟨fun z => by rw [z]; rfl, fun z => uN_inj (z.trans rfl)⟩
theorem uN_or {x y : Int64} (hy : uN y < 2) : uN ((x <<< ((1 : Int32).toInt64 &&& 63)) ||| y) = (2 * uN x) % 18446744073709551616 + uN y := by
  have h1 : uN ((x <<< ((1 : Int32).toInt64 &&& 63)) ||| y) = uN (x <<< ((1 : Int32).toInt64 &&& 63)) ||| uN y := UInt64.toNat_or _ _
  have h2 : (2 * uN x) % 18446744073709551616 = 2 ^ 1 * (uN x % 9223372036854775808) := by omega
  rw [h1, uN_shl, h2]
  exact (Nat.two_pow_add_eq_or_of_lt (i := 1) hy _).symm
theorem nat_xor {a : Nat} (h : a < 18446744073709551616) : a ^^^ 2 ^ 63 = (a + 9223372036854775808) % 18446744073709551616 := by
  have h1 : (a ^^^ 2 ^ 63) % 2 ^ 63 = a % 2 ^ 63 := by rw [Nat.xor_mod_two_pow, Nat.mod_self, Nat.xor_zero]
  have h2 : (a ^^^ 2 ^ 63) / 2 ^ 63 = (a / 2 ^ 63) ^^^ 1 := by rw [Nat.xor_div_two_pow, Nat.div_self (Nat.two_pow_pos 63)]
  have h3 : a / 2 ^ 63 = 0 ∨ a / 2 ^ 63 = 1 := by omega
  generalize a ^^^ 2 ^ 63 = t at h1 h2
  rcases h3 with h3 | h3
  · rw [h3] at h2
    have h2 : t / 2 ^ 63 = 1 := h2
    omega
  · rw [h3] at h2
    have h2 : t / 2 ^ 63 = 0 := h2
    omega
theorem uN_xor (x : Int64) : uN (x ^^^ (-9223372036854775808)) = (uN x + 9223372036854775808) % 18446744073709551616 := by
  rw [← nat_xor (uN_lt x)]
  exact UInt64.toNat_xor _ _
theorem uN_int (x : Int64) : x.toInt = if 2 * uN x < 18446744073709551616 then (uN x : Int) else (uN x : Int) - 18446744073709551616 := BitVec.toInt_eq_toNat_cond _
theorem uN_le (x y : Int64) : (x ^^^ (-9223372036854775808)) ≤ (y ^^^ (-9223372036854775808)) ↔ uN x ≤ uN y := by
  have hx := uN_lt x
  have hy := uN_lt y
  rw [Int64.le_iff_toInt_le, uN_int, uN_int, uN_xor, uN_xor]
  omega
theorem uN_sk (x : Int64) {k : Nat} (hk : k < 64) : uN (x.toUInt64 >>> ((nI k).toInt64.toUInt64 &&& Int64.toUInt64 63)).toInt64 = uN x / 2 ^ k := by
  have h : ((nI k).toInt64.toUInt64 &&& Int64.toUInt64 63).toNat % 64 = k := by
    rw [nI_l (by omega), UInt64.toNat_and]
    have e : (lN k).toUInt64.toNat = k % 2 ^ 64 := rfl
    have e2 : (Int64.toUInt64 63).toNat = 2 ^ 6 - 1 := by decide
    rw [e, e2, Nat.and_two_pow_sub_one_eq_mod]
    omega
  rw [uN_shr, h]
/-! ===== unsigned comparison by xor with the least ===== -/
theorem lN_bv (n : Nat) : (lN n).toBitVec = BitVec.ofNat 64 n := rfl
theorem lN_nat {n : Nat} (h : n < 2 ^ 64) : (lN n).toBitVec.toNat = n := by rw [lN_bv, BitVec.toNat_ofNat]; exact Nat.mod_eq_of_lt h
theorem lN_xor (a b : Nat) : lN a ^^^ lN b = lN (a ^^^ b) := by
  apply Int64.toBitVec_inj.mp; rw [Int64.toBitVec_xor, lN_bv, lN_bv, lN_bv]; apply BitVec.eq_of_getLsbD_eq; intro i hi; simp [BitVec.getLsbD_ofNat, Nat.testBit_xor, hi]
theorem lN_ti {m : Nat} (h : m < 2 ^ 64) : (lN m).toInt = if m < 2 ^ 63 then (m : Int) else (m : Int) - 2 ^ 64 := by
  have c := BitVec.toInt_eq_toNat_cond (lN m).toBitVec
  rw [lN_nat h] at c
  show (lN m).toBitVec.toInt = _
  rw [c]
  split <;> split <;> omega
theorem xor63 {x : Nat} (h : x < 2 ^ 63) : x ^^^ 2 ^ 63 = 2 ^ 63 + x := by
  apply Nat.eq_of_testBit_eq
  intro i
  rw [Nat.testBit_xor, Nat.testBit_two_pow]
  rcases Nat.lt_trichotomy i 63 with z | z | z
  · rw [Nat.testBit_two_pow_add_gt z, decide_eq_false (by omega)]; simp
  · subst z; rw [Nat.testBit_two_pow_add_eq]; simp
  · have hp : 2 ^ 64 ≤ 2 ^ i := Nat.pow_le_pow_right (by decide) z
    rw [Nat.testBit_lt_two_pow (show x < 2 ^ i by omega), Nat.testBit_lt_two_pow (show 2 ^ 63 + x < 2 ^ i by omega), decide_eq_false (by omega)]; rfl
theorem xorS {a : Nat} (h : a < 2 ^ 64) : (lN a ^^^ (-9223372036854775808)).toInt = (a : Int) - 2 ^ 63 := by
  rw [show (-9223372036854775808 : Int64) = lN (2 ^ 63) from by decide +kernel, lN_xor]
  rcases Nat.lt_or_ge a (2 ^ 63) with z | z
  · rw [xor63 z, lN_ti (by omega), if_neg (by omega)]; omega
  · obtain ⟨x, rfl⟩ : ∃ x, a = 2 ^ 63 + x := ⟨a - 2 ^ 63, by omega⟩
    rw [← xor63 (by omega), Nat.xor_assoc, Nat.xor_self, Nat.xor_zero, lN_ti (by omega), if_pos (by omega), xor63 (by omega)]; omega
theorem ultL {a b : Nat} (ha : a < 2 ^ 64) (hb : b < 2 ^ 64) : ((lN b ^^^ (-9223372036854775808)) ≤ (lN a ^^^ (-9223372036854775808))) ↔ b ≤ a := by
  rw [Int64.le_iff_toInt_le, xorS ha, xorS hb]; omega
/-! ===== Int64 masks of n low bits ===== -/
theorem cr_bits (W U M : BitVec 64) : ((W &&& U) &&& (U &&& (M ^^^ BitVec.allOnes 64))) = 0#64 ↔ (W &&& U) &&& M = W &&& U := by
  constructor
  · intro h
    apply BitVec.eq_of_getLsbD_eq
    intro i hi
    have e := congrArg (fun x => BitVec.getLsbD x i) h
    simp only [BitVec.getLsbD_and, BitVec.getLsbD_xor, BitVec.getLsbD_allOnes, BitVec.getLsbD_zero, hi, decide_true] at e ⊢
    revert e
    cases W.getLsbD i <;> cases U.getLsbD i <;> cases M.getLsbD i <;> decide
  · intro h
    apply BitVec.eq_of_getLsbD_eq
    intro i hi
    have e := congrArg (fun x => BitVec.getLsbD x i) h
    simp only [BitVec.getLsbD_and, BitVec.getLsbD_xor, BitVec.getLsbD_allOnes, BitVec.getLsbD_zero, hi, decide_true] at e ⊢
    revert e
    cases W.getLsbD i <;> cases U.getLsbD i <;> cases M.getLsbD i <;> decide
theorem cr_mask (w U m : Int64) (n : Nat) (hm : m.toBitVec.toNat = 2 ^ n - 1) : ((w &&& U) &&& (U &&& (m ^^^ (-1)))) = 0 ↔ (w &&& U).toBitVec.toNat < 2 ^ n := by
  have e0 : (-1 : Int64).toBitVec = BitVec.allOnes 64 := by decide
  have z0 : (0 : Int64).toBitVec = 0#64 := by decide
  rw [← Int64.toBitVec_inj, z0, Int64.toBitVec_and, Int64.toBitVec_and, Int64.toBitVec_and, Int64.toBitVec_xor, e0, cr_bits]
  generalize w.toBitVec &&& U.toBitVec = T
  rw [← BitVec.toNat_inj, BitVec.toNat_and, hm, Nat.and_two_pow_sub_one_eq_mod]
  constructor
  · intro h
    have t := Nat.mod_lt T.toNat (Nat.two_pow_pos n)
    rw [h] at t
    exact t
  · exact Nat.mod_eq_of_lt
theorem cr_shr (t : Int64) (x : UInt64) (n : Nat) (hx : x.toNat % 64 = n) : (t.toUInt64 >>> x).toInt64 = 0 ↔ t.toBitVec.toNat < 2 ^ n := by
  rw [← Int64.toBitVec_inj, ← BitVec.toNat_inj]
  show (t.toUInt64 >>> x).toNat = 0 ↔ t.toUInt64.toNat < 2 ^ n
  rw [UInt64.toNat_shiftRight, hx, Nat.shiftRight_eq_div_pow]
  constructor
  · intro h
    have d : t.toUInt64.toNat / 2 ^ n < 1 := by
      rw [h]
      decide
    have e := (Nat.div_lt_iff_lt_mul (Nat.two_pow_pos n)).mp d
    rw [Nat.one_mul] at e
    exact e
  · exact Nat.div_eq_of_lt
theorem cr_amt (s : Int64) : ∃ n, n < 64 ∧ s &&& 63 = lN n ∧ (s.toUInt64 &&& Int64.toUInt64 63).toNat % 64 = n := by
  have e : (s.toUInt64 &&& Int64.toUInt64 63).toNat = s.toUInt64.toNat % 2 ^ 6 := by
    rw [UInt64.toNat_and, show (Int64.toUInt64 63).toNat = 2 ^ 6 - 1 from by decide, Nat.and_two_pow_sub_one_eq_mod]
  refine ⟨s.toUInt64.toNat % 2 ^ 6, by omega, ?_, by omega⟩
  rw [← Int64.toBitVec_inj, ← BitVec.toNat_inj]
  show (s.toUInt64 &&& Int64.toUInt64 63).toNat = (BitVec.ofNat 64 (s.toUInt64.toNat % 2 ^ 6)).toNat
  rw [e, BitVec.toNat_ofNat]
  omega
end
section
/-! ===== counts, sums, products, pigeonhole ===== -/
theorem fd_pig : ∀ (n : Nat) (f : Nat → Nat), (∀ i, i < n → f i < n) → (∀ i j, i < n → j < n → f i = f j → i = j) → ∀ v, v < n → ∃ i, i < n ∧ f i = v := by
  intro n
  induction n with
  | zero => intro f _ _ v hv; omega
  | succ n ih =>
    intro f h1 h2 v hv
    by_cases hvn : v = f n
    · exact ⟨n, by omega, hvn.symm⟩
    · obtain ⟨g, hg⟩ : ∃ g : Nat → Nat, ∀ i, g i = if f i = n then f n else f i := ⟨_, fun _ => rfl⟩
      have hn : ∀ i, i < n → f i = n → f n < n := by
        intro i hi e
        have a := h1 n (by omega)
        rcases Nat.lt_or_ge (f n) n with h | h
        · exact h
        · have := h2 i n (by omega) (by omega) (by omega)
          omega
      have b1 : ∀ i, i < n → g i < n := by
        intro i hi
        rw [hg]
        split
        · exact hn i hi (by assumption)
        · have := h1 i (by omega); omega
      have b2 : ∀ i j, i < n → j < n → g i = g j → i = j := by
        intro i j hi hj e
        rw [hg, hg] at e
        split at e <;> split at e
        · exact h2 i j (by omega) (by omega) (by omega)
        · have := h2 n j (by omega) (by omega) e; omega
        · have := h2 i n (by omega) (by omega) e; omega
        · exact h2 i j (by omega) (by omega) e
      by_cases hv2 : v = n
      · have hfn : f n < n := by have := h1 n (by omega); omega
        obtain ⟨i, hi, e⟩ := ih g b1 b2 (f n) hfn
        rw [hg] at e
        split at e
        · exact ⟨i, by omega, by omega⟩
        · have := h2 i n (by omega) (by omega) e; omega
      · obtain ⟨i, hi, e⟩ := ih g b1 b2 v (by omega)
        rw [hg] at e
        split at e
        · omega
        · exact ⟨i, by omega, e⟩
/-- how many i < n have p i -/
def fd_cn (p : Nat → Bool) : Nat → Nat
  | 0 => 0
  | n + 1 => fd_cn p n + (if p n = true then 1 else 0)
theorem fd_cn_s (p : Nat → Bool) (n : Nat) : fd_cn p (n + 1) = fd_cn p n + (if p n = true then 1 else 0) := rfl
theorem fd_cn_t {p : Nat → Bool} {n : Nat} (h : p n = true) : fd_cn p (n + 1) = fd_cn p n + 1 := by rw [fd_cn_s, if_pos h]
theorem fd_cn_f {p : Nat → Bool} {n : Nat} (h : p n = false) : fd_cn p (n + 1) = fd_cn p n := by rw [fd_cn_s, h]; rfl
theorem fd_cn_le (p : Nat → Bool) : ∀ n, fd_cn p n ≤ n := by
  intro n
  induction n with
  | zero => exact Nat.le_refl _
  | succ n ih => rw [fd_cn_s]; split <;> omega
theorem fd_cn_step (p : Nat → Bool) {i n : Nat} (h : i ≤ n) : fd_cn p i ≤ fd_cn p n := by
  induction n with
  | zero => have : i = 0 := by omega
            subst this; exact Nat.le_refl _
  | succ n ih =>
    by_cases e : i = n + 1
    · subst e; exact Nat.le_refl _
    · have := ih (by omega)
      rw [fd_cn_s]; omega
theorem fd_cn_slt {p : Nat → Bool} {i n : Nat} (h : i < n) (hp : p i = true) : fd_cn p i < fd_cn p n := by
  have := fd_cn_step p (i := i + 1) (n := n) h
  rw [fd_cn_t hp] at this; omega
theorem fd_cn_congr {p q : Nat → Bool} {n : Nat} (h : ∀ i, i < n → p i = q i) : fd_cn p n = fd_cn q n := by
  induction n with
  | zero => rfl
  | succ n ih => rw [fd_cn_s, fd_cn_s, ih (fun i hi => h i (by omega)), h n (by omega)]
theorem fd_cn_mono {p q : Nat → Bool} {n : Nat} (h : ∀ i, i < n → p i = true → q i = true) : fd_cn p n ≤ fd_cn q n := by
  induction n with
  | zero => exact Nat.le_refl _
  | succ n ih =>
    have a := ih (fun i hi => h i (by omega))
    rw [fd_cn_s, fd_cn_s]
    by_cases e : p n = true
    · rw [if_pos e, if_pos (h n (by omega) e)]; omega
    · rw [if_neg e]; split <;> omega
theorem fd_cn_mlt {p q : Nat → Bool} {n i : Nat} (h : ∀ i, i < n → p i = true → q i = true) (hi : i < n) (hq : q i = true) (hp : p i = false) : fd_cn p n < fd_cn q n := by
  induction n with
  | zero => omega
  | succ n ih =>
    rw [fd_cn_s, fd_cn_s]
    by_cases e : i = n
    · subst e
      have a := fd_cn_mono (p := p) (q := q) (n := i) (fun j hj => h j (by omega))
      rw [if_pos hq, hp, if_neg (by decide)]; omega
    · have a := ih (fun j hj => h j (by omega)) (by omega)
      by_cases e2 : p n = true
      · rw [if_pos e2, if_pos (h n (by omega) e2)]; omega
      · rw [if_neg e2]; split <;> omega
theorem fd_cn_0 {p : Nat → Bool} {n : Nat} (h : ∀ i, i < n → p i = false) : fd_cn p n = 0 := by
  induction n with
  | zero => rfl
  | succ n ih => rw [fd_cn_f (h n (by omega)), ih (fun i hi => h i (by omega))]
theorem fd_cn_pos {p : Nat → Bool} {n i : Nat} (hi : i < n) (h : p i = true) : 0 < fd_cn p n := by
  have := fd_cn_slt hi h; omega
theorem fd_cn_ex {p : Nat → Bool} {n : Nat} (h : 0 < fd_cn p n) : ∃ i, i < n ∧ p i = true := by
  induction n with
  | zero => exact absurd h (by simp [fd_cn])
  | succ n ih =>
    by_cases e : p n = true
    · exact ⟨n, by omega, e⟩
    · rw [fd_cn_s, if_neg e] at h
      obtain ⟨i, hi, hp⟩ := ih (by omega)
      exact ⟨i, by omega, hp⟩
/-- from i on to n nothing: the count stays -/
theorem fd_cn_stay {p : Nat → Bool} {i n : Nat} (hi : i ≤ n) (h : ∀ j, i ≤ j → j < n → p j = false) : fd_cn p n = fd_cn p i := by
  induction n with
  | zero => have : i = 0 := by omega
            rw [this]
  | succ n ih =>
    by_cases e : i = n + 1
    · rw [e]
    · rw [fd_cn_f (h n (by omega) (by omega)), ih (by omega) (fun j a b => h j a (by omega))]
/-- the k-th: there is i with p i and k before it -/
theorem fd_cn_kth {p : Nat → Bool} {n k : Nat} (h : k < fd_cn p n) : ∃ i, i < n ∧ p i = true ∧ fd_cn p i = k := by
  induction n with
  | zero => exact absurd h (by simp [fd_cn])
  | succ n ih =>
    by_cases e : p n = true
    · rw [fd_cn_t e] at h
      by_cases e2 : k < fd_cn p n
      · obtain ⟨i, a, b, c⟩ := ih e2; exact ⟨i, by omega, b, c⟩
      · exact ⟨n, by omega, e, by omega⟩
    · rw [fd_cn_s, if_neg e] at h
      obtain ⟨i, a, b, c⟩ := ih (by omega); exact ⟨i, by omega, b, c⟩
theorem fd_cn_inj {p : Nat → Bool} {i j : Nat} (hi : p i = true) (hj : p j = true) (h : fd_cn p i = fd_cn p j) : i = j := by
  rcases Nat.lt_trichotomy i j with e | e | e
  · have := fd_cn_slt e hi; omega
  · exact e
  · have := fd_cn_slt e hj; omega
theorem fd_cn_one {p : Nat → Bool} {n i : Nat} (hi : i < n) (h : ∀ j, j < n → (p j = true ↔ j = i)) : fd_cn p n = 1 := by
  have a : fd_cn p n = fd_cn p (i + 1) := fd_cn_stay (by omega) (fun j a b => by
    cases e : p j with
    | false => rfl
    | true => have := (h j b).mp e; omega)
  have b : fd_cn p i = 0 := fd_cn_0 (fun j hj => by
    cases e : p j with
    | false => rfl
    | true => have := (h j (by omega)).mp e; omega)
  rw [a, fd_cn_t ((h i hi).mpr rfl), b]
/-! sums -/
def fd_sm (f : Nat → Int) : Nat → Int
  | 0 => 0
  | n + 1 => fd_sm f n + f n
theorem fd_sm_s (f : Nat → Int) (n : Nat) : fd_sm f (n + 1) = fd_sm f n + f n := rfl
theorem fd_sm_congr {f g : Nat → Int} {n : Nat} (h : ∀ i, i < n → f i = g i) : fd_sm f n = fd_sm g n := by
  induction n with
  | zero => rfl
  | succ n ih => rw [fd_sm_s, fd_sm_s, ih (fun i hi => h i (by omega)), h n (by omega)]
theorem fd_sm_mono {f g : Nat → Int} {n : Nat} (h : ∀ i, i < n → f i ≤ g i) : fd_sm f n ≤ fd_sm g n := by
  induction n with
  | zero => exact Int.le_refl _
  | succ n ih =>
    have a := ih (fun i hi => h i (by omega))
    have b := h n (by omega)
    rw [fd_sm_s, fd_sm_s]; omega
theorem fd_sm_neg (f : Nat → Int) (n : Nat) : fd_sm (fun i => - f i) n = - fd_sm f n := by
  induction n with
  | zero => rfl
  | succ n ih => rw [fd_sm_s, fd_sm_s, ih]; omega
theorem fd_sm_bd {f : Nat → Int} {n : Nat} {B : Int} (h : ∀ i, i < n → -B ≤ f i ∧ f i ≤ B) : -(B * n) ≤ fd_sm f n ∧ fd_sm f n ≤ B * n := by
  induction n with
  | zero => simp [fd_sm]
  | succ n ih =>
    have a := ih (fun i hi => h i (by omega))
    have b := h n (by omega)
    rw [fd_sm_s]
    have e : B * ((n + 1 : Nat) : Int) = B * n + B := by rw [Int.natCast_add, Int.mul_add]; simp
    rw [e]; omega
/-- changing one summand -/
theorem fd_sm_upd {f g : Nat → Int} {n j : Nat} (hj : j < n) (h : ∀ i, i < n → i ≠ j → f i = g i) : fd_sm f n = fd_sm g n - g j + f j := by
  induction n with
  | zero => omega
  | succ n ih =>
    rw [fd_sm_s, fd_sm_s]
    by_cases e : j = n
    · subst e
      rw [fd_sm_congr (fun i hi => h i (by omega) (by omega))]; omega
    · rw [ih (by omega) (fun i hi => h i (by omega)), h n (by omega) (by omega)]; omega
/-- if each is at most and the sums agree, all agree -/
theorem fd_sm_eq {f g : Nat → Int} {n : Nat} (h : ∀ i, i < n → f i ≤ g i) (e : fd_sm f n = fd_sm g n) : ∀ i, i < n → f i = g i := by
  induction n with
  | zero => intro i hi; omega
  | succ n ih =>
    have a := fd_sm_mono (fun i (hi : i < n) => h i (by omega))
    have b := h n (by omega)
    rw [fd_sm_s, fd_sm_s] at e
    intro i hi
    by_cases c : i = n
    · subst c; omega
    · exact ih (fun i hi => h i (by omega)) (by omega) i (by omega)
/-! sums of naturals -/
def fd_ns (f : Nat → Nat) : Nat → Nat
  | 0 => 0
  | n + 1 => fd_ns f n + f n
theorem fd_ns_s (f : Nat → Nat) (n : Nat) : fd_ns f (n + 1) = fd_ns f n + f n := rfl
theorem fd_ns_congr {f g : Nat → Nat} {n : Nat} (h : ∀ i, i < n → f i = g i) : fd_ns f n = fd_ns g n := by
  induction n with
  | zero => rfl
  | succ n ih => rw [fd_ns_s, fd_ns_s, ih (fun i hi => h i (by omega)), h n (by omega)]
theorem fd_ns_mono {f g : Nat → Nat} {n : Nat} (h : ∀ i, i < n → f i ≤ g i) : fd_ns f n ≤ fd_ns g n := by
  induction n with
  | zero => exact Nat.le_refl _
  | succ n ih =>
    have a := ih (fun i hi => h i (by omega))
    have b := h n (by omega)
    rw [fd_ns_s, fd_ns_s]; omega
theorem fd_ns_lt {f g : Nat → Nat} {n j : Nat} (h : ∀ i, i < n → f i ≤ g i) (hj : j < n) (hl : f j < g j) : fd_ns f n < fd_ns g n := by
  induction n with
  | zero => omega
  | succ n ih =>
    rw [fd_ns_s, fd_ns_s]
    by_cases e : j = n
    · subst e
      have a := fd_ns_mono (fun i (hi : i < j) => h i (by omega)); omega
    · have a := ih (fun i hi => h i (by omega)) (by omega)
      have b := h n (by omega); omega
theorem fd_ns_bd {f : Nat → Nat} {n B : Nat} (h : ∀ i, i < n → f i ≤ B) : fd_ns f n ≤ B * n := by
  induction n with
  | zero => simp [fd_ns]
  | succ n ih =>
    have a := ih (fun i hi => h i (by omega))
    have b := h n (by omega)
    rw [fd_ns_s, Nat.mul_succ]; omega
/-! products -/
def fd_pr (f : Nat → Nat) : Nat → Nat
  | 0 => 1
  | n + 1 => fd_pr f n * f n
theorem fd_pr_s (f : Nat → Nat) (n : Nat) : fd_pr f (n + 1) = fd_pr f n * f n := rfl
theorem fd_pr_congr {f g : Nat → Nat} {n : Nat} (h : ∀ i, i < n → f i = g i) : fd_pr f n = fd_pr g n := by
  induction n with
  | zero => rfl
  | succ n ih => rw [fd_pr_s, fd_pr_s, ih (fun i hi => h i (by omega)), h n (by omega)]
theorem fd_pr_mono {f g : Nat → Nat} {n : Nat} (h : ∀ i, i < n → f i ≤ g i) : fd_pr f n ≤ fd_pr g n := by
  induction n with
  | zero => exact Nat.le_refl _
  | succ n ih => exact Nat.mul_le_mul (ih (fun i hi => h i (by omega))) (h n (by omega))
theorem fd_pr_pos {f : Nat → Nat} {n : Nat} (h : ∀ i, i < n → 0 < f i) : 0 < fd_pr f n := by
  induction n with
  | zero => exact Nat.one_pos
  | succ n ih => exact Nat.mul_pos (ih (fun i hi => h i (by omega))) (h n (by omega))
theorem fd_pr_0 {f : Nat → Nat} {n i : Nat} (hi : i < n) (h : f i = 0) : fd_pr f n = 0 := by
  induction n with
  | zero => omega
  | succ n ih =>
    rw [fd_pr_s]
    by_cases e : i = n
    · rw [← e, h, Nat.mul_zero]
    · rw [ih (by omega), Nat.zero_mul]
theorem fd_pr_pos' {f : Nat → Nat} {n : Nat} (h : 0 < fd_pr f n) : ∀ i, i < n → 0 < f i := by
  intro i hi
  rcases Nat.eq_zero_or_pos (f i) with e | e
  · rw [fd_pr_0 hi e] at h; omega
  · exact e
theorem fd_pr_one {f : Nat → Nat} {n : Nat} (h : ∀ i, i < n → f i = 1) : fd_pr f n = 1 := by
  induction n with
  | zero => rfl
  | succ n ih => rw [fd_pr_s, ih (fun i hi => h i (by omega)), h n (by omega)]
theorem fd_pr_upd {f g : Nat → Nat} {n j : Nat} (hj : j < n) (h1 : g j = 1) (h : ∀ i, i < n → i ≠ j → g i = f i) : fd_pr g n * f j = fd_pr f n := by
  induction n with
  | zero => omega
  | succ n ih =>
    rw [fd_pr_s, fd_pr_s]
    by_cases e : j = n
    · subst e
      rw [h1, Nat.mul_one, fd_pr_congr (fun i hi => h i (by omega) (by omega))]
    · rw [h n (by omega) (by omega), Nat.mul_right_comm, ih (by omega) (fun i hi => h i (by omega))]
/-- s without the first m members of V -/
def fd_rm (s V : Nat → Nat) : Nat → Nat → Nat
  | 0 => s
  | m + 1 => fun v => if v = V m then 1 else fd_rm s V m v
theorem fd_rm_s (s V : Nat → Nat) (m v : Nat) : fd_rm s V (m + 1) v = if v = V m then 1 else fd_rm s V m v := rfl
theorem fd_rm_out (s V : Nat → Nat) : ∀ m v, (∀ j, j < m → V j ≠ v) → fd_rm s V m v = s v := by
  intro m
  induction m with
  | zero => intro v _; rfl
  | succ m ih =>
    intro v h
    rw [fd_rm_s, if_neg (fun e => h m (by omega) e.symm), ih v (fun j hj => h j (by omega))]
theorem fd_rm_in (s V : Nat → Nat) : ∀ m v, (∃ j, j < m ∧ V j = v) → fd_rm s V m v = 1 := by
  intro m
  induction m with
  | zero => intro v ⟨j, hj, _⟩; omega
  | succ m ih =>
    intro v ⟨j, hj, e⟩
    rw [fd_rm_s]
    by_cases c : v = V m
    · rw [if_pos c]
    · rw [if_neg c]
      refine ih v ⟨j, ?_, e⟩
      have : j ≠ m := fun h => c (by rw [← e, h])
      omega
theorem fd_pr_sub (s V : Nat → Nat) (n : Nat) : ∀ m, (∀ j, j < m → V j < n) → (∀ i j, i < m → j < m → V i = V j → i = j) → fd_pr (fun j => s (V j)) m * fd_pr (fd_rm s V m) n = fd_pr s n := by
  intro m
  induction m with
  | zero => intro _ _; exact Nat.one_mul _
  | succ m ih =>
    intro h1 h2
    have a := ih (fun j hj => h1 j (by omega)) (fun i j hi hj => h2 i j (by omega) (by omega))
    have b : fd_rm s V m (V m) = s (V m) := fd_rm_out s V m (V m) (fun j hj e => by
      have := h2 j m (by omega) (by omega) e; omega)
    have c := fd_pr_upd (f := fd_rm s V m) (g := fd_rm s V (m + 1)) (n := n) (j := V m) (h1 m (by omega)) (by rw [fd_rm_s, if_pos rfl]) (fun i _ hi => by rw [fd_rm_s, if_neg hi])
    rw [b] at c
    rw [fd_pr_s, Nat.mul_assoc, Nat.mul_comm (s (V m)), c, a]
theorem fd_pr_perm (s V : Nat → Nat) (n : Nat) (h1 : ∀ j, j < n → V j < n) (h2 : ∀ i j, i < n → j < n → V i = V j → i = j) : fd_pr (fun j => s (V j)) n = fd_pr s n := by
  have a := fd_pr_sub s V n n h1 h2
  have b : fd_pr (fd_rm s V n) n = 1 := fd_pr_one (fun v hv => fd_rm_in s V n v (fd_pig n V h1 h2 v hv))
  rw [b, Nat.mul_one] at a
  exact a
theorem fd_pr_sle (s V : Nat → Nat) (n m : Nat) (h0 : ∀ v, v < n → 0 < s v) (h1 : ∀ j, j < m → V j < n) (h2 : ∀ i j, i < m → j < m → V i = V j → i = j) : fd_pr (fun j => s (V j)) m ≤ fd_pr s n := by
  have a := fd_pr_sub s V n m h1 h2
  have b : 0 < fd_pr (fd_rm s V m) n := fd_pr_pos (fun v hv => by
    by_cases c : ∃ j, j < m ∧ V j = v
    · rw [fd_rm_in s V m v c]; exact Nat.one_pos
    · rw [fd_rm_out s V m v (fun j hj e => c ⟨j, hj, e⟩)]; exact h0 v hv)
  rw [← a]
  exact Nat.le_mul_of_pos_right _ b
end
section
/-! ===== masks by their bits ===== -/
theorem fd_t1 : ∀ i, i < 32 → bt 1 i = decide (i = 0) := by decide +kernel
theorem fd_b1 {d : Nat} (hd : d < 32) (i : Nat) : bt ((1 : Int32) <<< (nI d &&& 31)) i = decide (i = d) := by
  rcases Nat.lt_or_ge i 32 with h | h
  · rw [b_shl d hd 1 h]
    by_cases e : d ≤ i
    · rw [fd_t1 (i - d) (by omega), decide_eq_true e, Bool.true_and]
      exact decide_eq_decide.mpr (by omega)
    · rw [decide_eq_false e, Bool.false_and, decide_eq_false (by omega)]
  · rw [b_big h, decide_eq_false (by omega)]
theorem fd_lt {m : Int32} {d : Nat} (h : bt m d = true) : d < 32 := by
  rcases Nat.lt_or_ge d 32 with e | e
  · exact e
  · rw [b_big e] at h; exact absurd h (by decide)
theorem fd_ne0 {m : Int32} : m ≠ 0 ↔ ∃ d, bt m d = true := by
  constructor
  · intro h
    apply Classical.byContradiction
    intro c
    apply h
    apply b_ext
    intro i _
    rw [b_0]
    cases e : bt m i with
    | false => rfl
    | true => exact absurd ⟨i, e⟩ c
  · rintro ⟨d, hd⟩ e
    rw [e, b_0] at hd; exact absurd hd (by decide)
theorem fd_eq0 {m : Int32} : m = 0 ↔ ∀ d, bt m d = false := by
  constructor
  · intro e d; rw [e, b_0]
  · intro h; apply b_ext; intro i _; rw [h, b_0]
theorem fd_bit (m : Int32) {d : Nat} (hd : d < 32) : (m &&& ((1 : Int32) <<< (nI d &&& 31))) = 0 ↔ bt m d = false := by
  rw [fd_eq0]
  constructor
  · intro h
    have := h d
    rw [b_and, fd_b1 hd, decide_eq_true rfl, Bool.and_true] at this
    exact this
  · intro h i
    rw [b_and, fd_b1 hd]
    by_cases e : i = d
    · rw [e, h, Bool.false_and]
    · rw [decide_eq_false e, Bool.and_false]
theorem fd_nbit (m : Int32) {d : Nat} (hd : d < 32) : ¬ (m &&& ((1 : Int32) <<< (nI d &&& 31))) = 0 ↔ bt m d = true := by
  rw [fd_bit m hd]; cases bt m d <;> simp
theorem fd_xm (x : Int32) {i : Nat} (hi : i < 32) : bt (x ^^^ (-1)) i = !bt x i := by
  rw [b_xor, b_m1 i hi, Bool.xor_true]
theorem fd_u1 (x : Int32) {d : Nat} (hd : d < 32) : ((x.toUInt32 >>> ((nI d).toUInt32 &&& Int32.toUInt32 31)).toInt32 &&& 1) = if bt x d = true then 1 else 0 := by
  apply b_ext
  intro i hi
  rw [b_and, b_ushr d hd, fd_t1 i hi]
  by_cases e : i = 0
  · subst e
    rw [Nat.add_zero]
    by_cases h : bt x d = true
    · rw [if_pos h, h]; decide
    · rw [if_neg h, b_0]
      cases hh : bt x d with
      | false => rfl
      | true => exact absurd hh h
  · rw [decide_eq_false e, Bool.and_false]
    split
    · rw [fd_t1 i hi, decide_eq_false e]
    · rw [b_0]
theorem fd_or1 (m : Int32) {d : Nat} (hd : d < 32) (i : Nat) : bt (m ||| ((1 : Int32) <<< (nI d &&& 31))) i = (bt m i || decide (i = d)) := by
  rw [b_or, fd_b1 hd]
theorem fd_cl1 (m : Int32) {d : Nat} (hd : d < 32) (i : Nat) : bt (m &&& (((1 : Int32) <<< (nI d &&& 31)) ^^^ (-1))) i = (bt m i && !decide (i = d)) := by
  rw [b_and]
  rcases Nat.lt_or_ge i 32 with h | h
  · rw [fd_xm _ h, fd_b1 hd]
  · rw [b_big h, Bool.false_and, Bool.false_and]
/-- the number of members -/
def fd_pc (m : Int32) : Nat := fd_cn (bt m) 32
theorem fd_pc_le (m : Int32) : fd_pc m ≤ 32 := fd_cn_le _ _
theorem fd_pc_pos {m : Int32} (h : m ≠ 0) : 0 < fd_pc m := by
  obtain ⟨d, hd⟩ := fd_ne0.mp h
  exact fd_cn_pos (fd_lt hd) hd
theorem fd_pc_ne {m : Int32} (h : 0 < fd_pc m) : m ≠ 0 := by
  obtain ⟨d, _, hd⟩ := fd_cn_ex h
  exact fd_ne0.mpr ⟨d, hd⟩
theorem fd_pc_mono {m k : Int32} (h : ∀ d, bt m d = true → bt k d = true) : fd_pc m ≤ fd_pc k := fd_cn_mono (fun i _ => h i)
theorem fd_pc_lt {m k : Int32} (h : ∀ d, bt m d = true → bt k d = true) (e : m ≠ k) : fd_pc m < fd_pc k := by
  have : ∃ d, bt k d = true ∧ bt m d = false := by
    apply Classical.byContradiction
    intro c
    apply e
    apply b_ext
    intro i _
    cases hm : bt m i with
    | true => rw [h i hm]
    | false =>
      cases hk : bt k i with
      | false => rfl
      | true => exact absurd ⟨i, hk, hm⟩ c
  obtain ⟨d, hk, hm⟩ := this
  exact fd_cn_mlt (fun i _ => h i) (fd_lt hk) hk hm
theorem fd_pc_0 : fd_pc 0 = 0 := fd_cn_0 (fun i _ => b_0 i)
theorem fd_pc_1 {m : Int32} {d : Nat} (h : ∀ i, bt m i = true ↔ i = d) (hd : d < 32) : fd_pc m = 1 := fd_cn_one hd (fun j _ => h j)
/-! clearing the lowest bit -/
theorem fd_lowN {M l : Nat} (h1 : M.testBit l = true) (h0 : ∀ i, i < l → M.testBit i = false) (j : Nat) : (M - 1).testBit j = (decide (j < l) || (decide (l < j) && M.testBit j)) := by
  have e1 : M % 2 ^ (l + 1) = 2 ^ l := by
    apply Nat.eq_of_testBit_eq
    intro i
    rw [Nat.testBit_mod_two_pow, Nat.testBit_two_pow]
    by_cases c : i = l
    · subst c; simp [h1]
    · by_cases c2 : i < l
      · rw [h0 i c2]; simp; omega
      · have : ¬ i < l + 1 := by omega
        simp [this]; omega
  have e2 := Nat.div_add_mod M (2 ^ (l + 1))
  rw [e1] at e2
  have p1 : 0 < 2 ^ l := Nat.two_pow_pos l
  have e3 : 2 ^ (l + 1) = 2 * 2 ^ l := by rw [Nat.pow_succ, Nat.mul_comm]
  have e4 : M - 1 = 2 ^ (l + 1) * (M / 2 ^ (l + 1)) + (2 ^ l - 1) := by omega
  rw [e4, Nat.testBit_two_pow_mul_add _ (by omega)]
  by_cases c : j < l + 1
  · rw [if_pos c, Nat.testBit_two_pow_sub_one]
    by_cases c2 : j < l
    · simp [c2]
    · have : ¬ l < j := by omega
      simp [c2, this]
  · rw [if_neg c, Nat.testBit_div_two_pow]
    have h1 : ¬ j < l := by omega
    have h2 : l < j := by omega
    have h3 : j - (l + 1) + (l + 1) = j := by omega
    simp [h1, h2, h3]
theorem fd_btN (m : Int32) (i : Nat) : bt m i = m.toBitVec.toNat.testBit i := rfl
theorem fd_toN {m : Int32} (h : m ≠ 0) : (m - 1).toBitVec.toNat = m.toBitVec.toNat - 1 := by
  have hp : 0 < m.toBitVec.toNat := by
    rcases Nat.eq_zero_or_pos m.toBitVec.toNat with e | e
    · exact absurd (Int32.toBitVec_inj.mp (BitVec.eq_of_toNat_eq (by rw [e]; rfl))) h
    · exact e
  have hl := m.toBitVec.isLt
  rw [Int32.toBitVec_sub, BitVec.toNat_sub]
  show (2 ^ 32 - 1 + m.toBitVec.toNat) % 2 ^ 32 = _
  omega
/-- m with lowest member l loses just that -/
theorem fd_clr {m : Int32} {l : Nat} (h1 : bt m l = true) (h0 : ∀ i, i < l → bt m i = false) (j : Nat) : bt (m &&& (m - 1)) j = (bt m j && !decide (j = l)) := by
  have hm : m ≠ 0 := fd_ne0.mpr ⟨l, h1⟩
  rw [b_and, fd_btN (m - 1), fd_toN hm, fd_lowN (by rw [← fd_btN]; exact h1) (fun i hi => by rw [← fd_btN]; exact h0 i hi) j]
  rcases Nat.lt_trichotomy j l with e | e | e
  · rw [h0 j e]; simp
  · subst e; simp
  · have h1 : ¬ j < l := by omega
    have h2 : ¬ j = l := by omega
    rw [← fd_btN]
    simp [h1, h2, e]
theorem fd_single {m : Int32} (hm : m ≠ 0) : (m &&& (m - 1)) = 0 ↔ ∃ d, ∀ i, bt m i = true ↔ i = d := by
  obtain ⟨k, hk⟩ := fd_ne0.mp hm
  obtain ⟨l, hl, h0⟩ := pk_least (fun d => bt m d = true) ⟨k, hk⟩
  have h0' : ∀ i, i < l → bt m i = false := fun i hi => by
    cases e : bt m i with
    | false => rfl
    | true => exact absurd e (h0 i hi)
  rw [fd_eq0]
  constructor
  · intro h
    refine ⟨l, fun i => ⟨fun hi => ?_, fun e => by rw [e]; exact hl⟩⟩
    have := h i
    rw [fd_clr hl h0', hi] at this
    simpa using this
  · rintro ⟨d, hd⟩ i
    rw [fd_clr hl h0']
    cases e : bt m i with
    | false => rfl
    | true =>
      have a := (hd i).mp e
      have b := (hd l).mp hl
      simp [a, b]
theorem fd_pc2 {m : Int32} (hm : m ≠ 0) : (m &&& (m - 1)) = 0 ↔ fd_pc m < 2 := by
  rw [fd_single hm]
  constructor
  · rintro ⟨d, hd⟩
    have h1 : d < 32 := fd_lt ((hd d).mpr rfl)
    rw [fd_pc_1 hd h1]; omega
  · intro h
    obtain ⟨d, hd⟩ := fd_ne0.mp hm
    refine ⟨d, fun i => ⟨fun hi => ?_, fun e => by rw [e]; exact hd⟩⟩
    rcases Nat.lt_trichotomy i d with e | e | e
    · have a := fd_cn_slt e hi
      have b := fd_cn_slt (fd_lt hd) hd
      unfold fd_pc at h; omega
    · exact e
    · have a := fd_cn_slt e hd
      have b := fd_cn_slt (fd_lt hi) hi
      unfold fd_pc at h; omega
/-! least and greatest member -/
def fd_fs (p : Nat → Bool) : Nat → Nat → Nat
  | 0, _ => 0
  | k + 1, i => if p i = true then i else fd_fs p k (i + 1)
def fd_lo (m : Int32) : Nat := fd_fs (bt m) 32 0
def fd_gs (p : Nat → Bool) : Nat → Nat
  | 0 => 0
  | k + 1 => if p (k + 1) = true then k + 1 else fd_gs p k
def fd_gr (m : Int32) : Nat := fd_gs (bt m) 31
theorem fd_fs_sp (p : Nat → Bool) : ∀ k i, (∃ j, i ≤ j ∧ j < i + k ∧ p j = true) → p (fd_fs p k i) = true ∧ ∀ j, i ≤ j → j < fd_fs p k i → p j = false := by
  intro k
  induction k with
  | zero => intro i ⟨j, a, b, _⟩; omega
  | succ k ih =>
    intro i ⟨j, a, b, c⟩
    unfold fd_fs
    by_cases e : p i = true
    · rw [if_pos e]; exact ⟨e, fun j a b => by omega⟩
    · rw [if_neg e]
      have : j ≠ i := fun h => e (h ▸ c)
      obtain ⟨x, y⟩ := ih (i + 1) ⟨j, by omega, by omega, c⟩
      refine ⟨x, fun j' a' b' => ?_⟩
      by_cases f : j' = i
      · rw [f]; cases h : p i with
        | false => rfl
        | true => exact absurd h e
      · exact y j' (by omega) b'
theorem fd_lo_in {m : Int32} (h : m ≠ 0) : bt m (fd_lo m) = true := by
  obtain ⟨d, hd⟩ := fd_ne0.mp h
  exact (fd_fs_sp (bt m) 32 0 ⟨d, by omega, by have := fd_lt hd; omega, hd⟩).1
theorem fd_lo_le {m : Int32} {d : Nat} (h : bt m d = true) : fd_lo m ≤ d := by
  have a := (fd_fs_sp (bt m) 32 0 ⟨d, by omega, by have := fd_lt h; omega, h⟩).2
  rcases Nat.lt_or_ge d (fd_lo m) with e | e
  · have := a d (by omega) e
    rw [h] at this; exact absurd this (by decide)
  · exact e
theorem fd_lo_lt {m : Int32} (h : m ≠ 0) : fd_lo m < 32 := fd_lt (fd_lo_in h)
theorem fd_lo_b {m : Int32} {i : Nat} (h : i < fd_lo m) : bt m i = false := by
  cases e : bt m i with
  | false => rfl
  | true => have := fd_lo_le e; omega
theorem fd_fs_lt (p : Nat → Bool) : ∀ k i, fd_fs p k i < i + k ∨ fd_fs p k i = 0 := by
  intro k
  induction k with
  | zero => intro i; exact Or.inr rfl
  | succ k ih =>
    intro i
    unfold fd_fs
    split
    · left; omega
    · rcases ih (i + 1) with h | h
      · left; omega
      · right; exact h
theorem fd_lo_32 (m : Int32) : fd_lo m < 32 := by
  rcases fd_fs_lt (bt m) 32 0 with h | h
  · unfold fd_lo; omega
  · unfold fd_lo; omega
theorem fd_gs_sp (p : Nat → Bool) : ∀ k, (∃ j, j ≤ k ∧ p j = true) → p (fd_gs p k) = true ∧ ∀ j, fd_gs p k < j → j ≤ k → p j = false := by
  intro k
  induction k with
  | zero => intro ⟨j, a, c⟩; have : j = 0 := by omega
            subst this; exact ⟨c, fun j a b => by omega⟩
  | succ k ih =>
    intro ⟨j, a, c⟩
    unfold fd_gs
    by_cases e : p (k + 1) = true
    · rw [if_pos e]; exact ⟨e, fun j a b => by omega⟩
    · rw [if_neg e]
      have : j ≠ k + 1 := fun h => e (h ▸ c)
      obtain ⟨x, y⟩ := ih ⟨j, by omega, c⟩
      refine ⟨x, fun j' a' b' => ?_⟩
      by_cases f : j' = k + 1
      · rw [f]; cases h : p (k + 1) with
        | false => rfl
        | true => exact absurd h e
      · exact y j' a' (by omega)
theorem fd_gs_le (p : Nat → Bool) : ∀ k, fd_gs p k ≤ k := by
  intro k
  induction k with
  | zero => exact Nat.le_refl _
  | succ k ih => unfold fd_gs; split <;> omega
theorem fd_gr_32 (m : Int32) : fd_gr m < 32 := by have := fd_gs_le (bt m) 31; unfold fd_gr; omega
theorem fd_gr_in {m : Int32} (h : m ≠ 0) : bt m (fd_gr m) = true := by
  obtain ⟨d, hd⟩ := fd_ne0.mp h
  exact (fd_gs_sp (bt m) 31 ⟨d, by have := fd_lt hd; omega, hd⟩).1
theorem fd_gr_ge {m : Int32} {d : Nat} (h : bt m d = true) : d ≤ fd_gr m := by
  have a := (fd_gs_sp (bt m) 31 ⟨d, by have := fd_lt h; omega, h⟩).2
  rcases Nat.lt_or_ge (fd_gr m) d with e | e
  · have := a d e (by have := fd_lt h; omega)
    rw [h] at this; exact absurd this (by decide)
  · exact e
/-! the masks of a relation -/
theorem fd_mle : ∀ k, k < 31 → ∀ d, d < 32 → bt (((1 : Int32) <<< ((nI k + 1) &&& 31)) - 1) d = decide (d ≤ k) := by decide +kernel
theorem fd_mge : ∀ k, k < 32 → ∀ d, d < 32 → bt ((-1 : Int32) <<< (nI k &&& 31)) d = decide (k ≤ d) := by decide +kernel
/-! Int32 arithmetic within the range -/
theorem fd_mul {a b : Int32} (h1 : -2147483648 ≤ a.toInt * b.toInt) (h2 : a.toInt * b.toInt < 2147483648) : (a * b).toInt = a.toInt * b.toInt := by
  rw [Int32.toInt_mul]; exact Int.bmod_eq_of_le (by simpa using h1) (by simpa using h2)
theorem fd_add {a b : Int32} (h1 : -2147483648 ≤ a.toInt + b.toInt) (h2 : a.toInt + b.toInt < 2147483648) : (a + b).toInt = a.toInt + b.toInt := by
  rw [Int32.toInt_add]; exact Int.bmod_eq_of_le (by simpa using h1) (by simpa using h2)
theorem fd_sub {a b : Int32} (h1 : -2147483648 ≤ a.toInt - b.toInt) (h2 : a.toInt - b.toInt < 2147483648) : (a - b).toInt = a.toInt - b.toInt := by
  rw [Int32.toInt_sub]; exact Int.bmod_eq_of_le (by simpa using h1) (by simpa using h2)
theorem fd_neg {a : Int32} (h1 : -2147483648 < a.toInt) : (-a).toInt = - a.toInt := by
  have := a.toInt_lt
  rw [Int32.toInt_neg]; exact Int.bmod_eq_of_le (by simp; omega) (by simp; omega)
end
section
/-! ===== numbering of assignments in labelling order ===== -/
def fd_In (n : Nat) (W : Nat → Int32) (a : Nat → Nat) : Prop := ∀ v, v < n → bt (W v) (a v) = true
def fd_Perm (n : Nat) (o : Nat → Nat) : Prop := (∀ p, p < n → o p < n) ∧ (∀ p q, p < n → q < n → o p = o q → p = q)
theorem fd_Perm_on {n : Nat} {o : Nat → Nat} (h : fd_Perm n o) {v : Nat} (hv : v < n) : ∃ p, p < n ∧ o p = v := fd_pig n o h.1 h.2 v hv
def fd_num (s k : Nat → Nat) : Nat → Nat
  | 0 => 0
  | p + 1 => fd_num s k p * s p + k p
theorem fd_num_s (s k : Nat → Nat) (p : Nat) : fd_num s k (p + 1) = fd_num s k p * s p + k p := rfl
theorem fd_num_congr {s k k' : Nat → Nat} {m : Nat} (h : ∀ q, q < m → k q = k' q) : fd_num s k m = fd_num s k' m := by
  induction m with
  | zero => rfl
  | succ m ih => rw [fd_num_s, fd_num_s, ih (fun q hq => h q (by omega)), h m (by omega)]
theorem fd_num_lt {s k : Nat → Nat} {m : Nat} (h : ∀ q, q < m → k q < s q) : fd_num s k m < fd_pr s m := by
  induction m with
  | zero => exact Nat.one_pos
  | succ m ih =>
    rw [fd_num_s, fd_pr_s]
    have a := ih (fun q hq => h q (by omega))
    have b := h m (by omega)
    have c : (fd_num s k m + 1) * s m ≤ fd_pr s m * s m := Nat.mul_le_mul_right _ a
    rw [Nat.add_mul, Nat.one_mul] at c
    omega
theorem fd_num_step {s k k' : Nat → Nat} {m : Nat} (hk : k m < s m) (h : fd_num s k m < fd_num s k' m) : fd_num s k (m + 1) < fd_num s k' (m + 1) := by
  rw [fd_num_s, fd_num_s]
  have c : (fd_num s k m + 1) * s m ≤ fd_num s k' m * s m := Nat.mul_le_mul_right _ h
  rw [Nat.add_mul, Nat.one_mul] at c
  omega
theorem fd_num_lex {s k k' : Nat → Nat} {p : Nat} (he : ∀ q, q < p → k q = k' q) (hp : k p < k' p) : ∀ m, p < m → (∀ q, q < m → k q < s q) → fd_num s k m < fd_num s k' m := by
  intro m
  induction m with
  | zero => intro h; omega
  | succ m ih =>
    intro h hk
    by_cases e : p = m
    · subst e
      rw [fd_num_s, fd_num_s, fd_num_congr he]; omega
    · exact fd_num_step (hk m (by omega)) (ih (by omega) (fun q hq => hk q (by omega)))
theorem fd_num_inj {s k k' : Nat → Nat} : ∀ m, (∀ q, q < m → k q < s q) → (∀ q, q < m → k' q < s q) → fd_num s k m = fd_num s k' m → ∀ q, q < m → k q = k' q := by
  intro m
  induction m with
  | zero => intro _ _ _ q hq; omega
  | succ m ih =>
    intro h1 h2 e q hq
    have a := h1 m (by omega)
    have b := h2 m (by omega)
    have c : fd_num s k m = fd_num s k' m := by
      rcases Nat.lt_trichotomy (fd_num s k m) (fd_num s k' m) with x | x | x
      · have := fd_num_step a x; omega
      · exact x
      · have := fd_num_step b x; omega
    by_cases eq : q = m
    · subst eq; rw [fd_num_s, fd_num_s, c] at e; omega
    · exact ih (fun q hq => h1 q (by omega)) (fun q hq => h2 q (by omega)) c q (by omega)
/-- d comes before e in direction r -/
def fd_bf (r : Int32) (d e : Nat) : Prop := if r = 1 then e < d else d < e
theorem fd_bf_tr {r : Int32} {a b c : Nat} (h1 : fd_bf r a b) (h2 : fd_bf r b c) : fd_bf r a c := by
  unfold fd_bf at *; split at h1 <;> simp_all <;> omega
theorem fd_bf_ir {r : Int32} {a : Nat} : ¬ fd_bf r a a := by
  unfold fd_bf; split <;> omega
theorem fd_bf_tri (r : Int32) (a b : Nat) : fd_bf r a b ∨ a = b ∨ fd_bf r b a := by
  unfold fd_bf; split <;> omega
/-- the place of d in D, by direction -/
def fd_rk (D r : Int32) (d : Nat) : Nat := if r = 1 then fd_pc D - 1 - fd_cn (bt D) d else fd_cn (bt D) d
theorem fd_rk_c {D : Int32} {d : Nat} (h : bt D d = true) : fd_cn (bt D) d < fd_pc D := fd_cn_slt (fd_lt h) h
theorem fd_rk_lt {D r : Int32} {d : Nat} (h : bt D d = true) : fd_rk D r d < fd_pc D := by
  have := fd_rk_c h
  unfold fd_rk; split <;> omega
theorem fd_rk_bf {D r : Int32} {d e : Nat} (hd : bt D d = true) (he : bt D e = true) (h : fd_bf r d e) : fd_rk D r d < fd_rk D r e := by
  have a := fd_rk_c hd
  have b := fd_rk_c he
  unfold fd_bf at h
  unfold fd_rk
  by_cases c : r = 1
  · rw [if_pos c] at h ⊢
    rw [if_pos c]
    have := fd_cn_slt h he; omega
  · rw [if_neg c] at h ⊢
    rw [if_neg c]
    exact fd_cn_slt h hd
theorem fd_rk_inj {D r : Int32} {d e : Nat} (hd : bt D d = true) (he : bt D e = true) (h : fd_rk D r d = fd_rk D r e) : d = e := by
  rcases fd_bf_tri r d e with c | c | c
  · have := fd_rk_bf hd he c; omega
  · exact c
  · have := fd_rk_bf he hd c; omega
/-- the number of an assignment -/
def fd_nm (n : Nat) (D : Nat → Int32) (o : Nat → Nat) (r : Nat → Int32) (a : Nat → Nat) : Nat := fd_num (fun p => fd_pc (D (o p))) (fun p => fd_rk (D (o p)) (r (o p)) (a (o p))) n
def fd_tot (n : Nat) (D : Nat → Int32) : Nat := fd_pr (fun v => fd_pc (D v)) n
section
variable {n : Nat} {D : Nat → Int32} {o : Nat → Nat} {r : Nat → Int32} {a b : Nat → Nat}
theorem fd_nm_dig (hp : fd_Perm n o) (ha : fd_In n D a) : ∀ q, q < n → (fun p => fd_rk (D (o p)) (r (o p)) (a (o p))) q < (fun p => fd_pc (D (o p))) q := fun q hq => fd_rk_lt (ha (o q) (hp.1 q hq))
theorem fd_nm_lt (hp : fd_Perm n o) (ha : fd_In n D a) : fd_nm n D o r a < fd_tot n D := by
  have h := fd_num_lt (fd_nm_dig (r := r) hp ha)
  have e : fd_pr (fun p => fd_pc (D (o p))) n = fd_tot n D := fd_pr_perm (fun v => fd_pc (D v)) o n hp.1 hp.2
  rw [e] at h
  exact h
theorem fd_nm_lex (hp : fd_Perm n o) (ha : fd_In n D a) (hb : fd_In n D b) {p : Nat} (h : p < n) (he : ∀ q, q < p → a (o q) = b (o q)) (hl : fd_bf (r (o p)) (a (o p)) (b (o p))) : fd_nm n D o r a < fd_nm n D o r b :=
  fd_num_lex (s := fun p => fd_pc (D (o p))) (k := fun p => fd_rk (D (o p)) (r (o p)) (a (o p))) (k' := fun p => fd_rk (D (o p)) (r (o p)) (b (o p))) (p := p) (fun q hq => by show fd_rk _ _ _ = fd_rk _ _ _; rw [he q hq]) (fd_rk_bf (ha _ (hp.1 p h)) (hb _ (hp.1 p h)) hl) n h (fd_nm_dig hp ha)
theorem fd_nm_inj (hp : fd_Perm n o) (ha : fd_In n D a) (hb : fd_In n D b) (h : fd_nm n D o r a = fd_nm n D o r b) : ∀ v, v < n → a v = b v := by
  intro v hv
  obtain ⟨p, hpn, e⟩ := fd_Perm_on hp hv
  have := fd_num_inj n (fd_nm_dig (r := r) hp ha) (fd_nm_dig (r := r) hp hb) h p hpn
  rw [← e]
  exact fd_rk_inj (ha _ (hp.1 p hpn)) (hb _ (hp.1 p hpn)) this
theorem fd_nm_congr (hp : fd_Perm n o) (h : ∀ v, v < n → a v = b v) : fd_nm n D o r a = fd_nm n D o r b :=
  fd_num_congr (fun q hq => by show fd_rk _ _ _ = fd_rk _ _ _; rw [h _ (hp.1 q hq)])
theorem fd_nm_dif (hp : fd_Perm n o) (ha : fd_In n D a) (hb : fd_In n D b) (h : fd_nm n D o r a < fd_nm n D o r b) : ∃ p, p < n ∧ (∀ q, q < p → a (o q) = b (o q)) ∧ fd_bf (r (o p)) (a (o p)) (b (o p)) := by
  have : ∃ p, p < n ∧ a (o p) ≠ b (o p) := by
    apply Classical.byContradiction
    intro c
    have : fd_nm n D o r a = fd_nm n D o r b := fd_nm_congr hp (fun v hv => by
      obtain ⟨p, hpn, e⟩ := fd_Perm_on hp hv
      rw [← e]
      exact Classical.byContradiction (fun x => c ⟨p, hpn, x⟩))
    omega
  obtain ⟨p, ⟨h1, h2⟩, h3⟩ := pk_least _ this
  have h3' : ∀ q, q < p → a (o q) = b (o q) := fun q hq => Classical.byContradiction (fun x => h3 q hq ⟨by omega, x⟩)
  refine ⟨p, h1, h3', ?_⟩
  rcases fd_bf_tri (r (o p)) (a (o p)) (b (o p)) with c | c | c
  · exact c
  · exact absurd c h2
  · have := fd_nm_lex (r := r) hp hb ha h1 (fun q hq => (h3' q hq).symm) c
    omega
end
end
section
/-! ===== constraints, projections, closed domains ===== -/
abbrev fd_FC : Type := (Nat → Int32) × (Nat → Int32) × (Nat → Int32) × (Nat → Int32) × (Nat → Int32) × (Nat → Int32) × (Nat → Int32) × (Nat → Int32)
def fd_kd (G : fd_FC) (c : Nat) : Int32 := G.1 c
def fd_rl (G : fd_FC) (c : Nat) : Nat := (G.2.1 c).toNatClampNeg
def fd_ct (G : fd_FC) (c : Nat) : Int := (G.2.2.1 c).toInt
def fd_fi (G : fd_FC) (c : Nat) : Nat := (G.2.2.2.1 c).toNatClampNeg
def fd_se (G : fd_FC) (c : Nat) : Nat := (G.2.2.2.2.1 c).toNatClampNeg
def fd_sz (G : fd_FC) (c : Nat) : Nat := (G.2.2.2.2.2.1 c).toNatClampNeg
def fd_nu (G : fd_FC) (c j : Nat) : Int := (G.2.2.2.2.2.2.1 (16 * c + j)).toInt
def fd_sp (G : fd_FC) (c j : Nat) : Nat := (G.2.2.2.2.2.2.2 (16 * c + j)).toNatClampNeg
def fd_rel : Nat → Int → Int → Prop
  | 0, s, k => s = k
  | 1, s, k => s ≠ k
  | 2, s, k => s ≤ k
  | _, s, k => k ≤ s
def fd_sum (G : fd_FC) (c : Nat) (a : Nat → Nat) : Int := fd_sm (fun j => fd_nu G c j * (a (fd_sp G c j) : Int)) (fd_sz G c)
def fd_H (G : fd_FC) (c : Nat) (a : Nat → Nat) : Prop :=
  (fd_kd G c = 1 → fd_rel (fd_rl G c) (fd_sum G c a) (fd_ct G c)) ∧
  (fd_kd G c = 2 → (a (fd_fi G c) = 1 ∧ fd_rel (fd_rl G c) (fd_sum G c a) (fd_ct G c)) ∨ (a (fd_fi G c) = 0 ∧ ¬ fd_rel (fd_rl G c) (fd_sum G c a) (fd_ct G c))) ∧
  (fd_kd G c = 3 → ∀ i j, i < j → j < fd_sz G c → (a (fd_sp G c i) : Int) + fd_nu G c i ≠ a (fd_sp G c j) + fd_nu G c j) ∧
  (fd_kd G c = 4 → a (fd_fi G c) < fd_sz G c ∧ (a (fd_se G c) : Int) = fd_nu G c (a (fd_fi G c)))
/-- the terms of slot c are sound -/
def fd_Tm (n : Nat) (G : fd_FC) (c : Nat) : Prop :=
  fd_sz G c ≤ 8 ∧ G.2.2.2.2.2.1 c = nI (fd_sz G c) ∧
  (∀ j, j < fd_sz G c → fd_sp G c j < n ∧ G.2.2.2.2.2.2.2 (16 * c + j) = nI (fd_sp G c j) ∧ -8 ≤ fd_nu G c j ∧ fd_nu G c j ≤ 8) ∧
  (∀ i j, i < fd_sz G c → j < fd_sz G c → fd_sp G c i = fd_sp G c j → i = j)
def fd_Li (G : fd_FC) (c : Nat) : Prop :=
  G.2.1 c = nI (fd_rl G c) ∧ fd_rl G c ≤ 3 ∧ -4096 ≤ fd_ct G c ∧ fd_ct G c ≤ 4096 ∧ ∀ j, j < fd_sz G c → fd_nu G c j ≠ 0
def fd_WF (n : Nat) (G : fd_FC) (c : Nat) : Prop :=
  (fd_kd G c = 1 ∧ fd_Tm n G c ∧ 1 ≤ fd_sz G c ∧ fd_Li G c ∧ (fd_rl G c = 0 → fd_sz G c ≤ 2)) ∨
  (fd_kd G c = 2 ∧ fd_Tm n G c ∧ 1 ≤ fd_sz G c ∧ fd_Li G c ∧ fd_sz G c ≤ 2 ∧ fd_fi G c < n ∧ G.2.2.2.1 c = nI (fd_fi G c) ∧ ∀ j, j < fd_sz G c → fd_sp G c j ≠ fd_fi G c) ∨
  (fd_kd G c = 3 ∧ fd_Tm n G c ∧ 1 ≤ fd_sz G c) ∨
  (fd_kd G c = 4 ∧ fd_fi G c < n ∧ G.2.2.2.1 c = nI (fd_fi G c) ∧ fd_se G c < n ∧ G.2.2.2.2.1 c = nI (fd_se G c) ∧ fd_fi G c ≠ fd_se G c ∧ 1 ≤ fd_sz G c ∧ fd_sz G c ≤ 16 ∧ G.2.2.2.2.2.1 c = nI (fd_sz G c) ∧ ∀ j, j < fd_sz G c → 0 ≤ fd_nu G c j ∧ fd_nu G c j ≤ 31)
/-- v stands in the scope of c -/
def fd_Sc (G : fd_FC) (c v : Nat) : Prop :=
  (fd_kd G c = 4 ∧ (v = fd_fi G c ∨ v = fd_se G c)) ∨ (fd_kd G c ≠ 4 ∧ ∃ j, j < fd_sz G c ∧ fd_sp G c j = v) ∨ (fd_kd G c = 2 ∧ v = fd_fi G c)
theorem fd_H1 {G : fd_FC} {c : Nat} {a : Nat → Nat} (h : fd_kd G c = 1) : fd_H G c a ↔ fd_rel (fd_rl G c) (fd_sum G c a) (fd_ct G c) := by
  unfold fd_H; rw [h]; exact ⟨fun x => x.1 rfl, fun x => ⟨fun _ => x, fun e => absurd e (by decide), fun e => absurd e (by decide), fun e => absurd e (by decide)⟩⟩
theorem fd_H2 {G : fd_FC} {c : Nat} {a : Nat → Nat} (h : fd_kd G c = 2) : fd_H G c a ↔ ((a (fd_fi G c) = 1 ∧ fd_rel (fd_rl G c) (fd_sum G c a) (fd_ct G c)) ∨ (a (fd_fi G c) = 0 ∧ ¬ fd_rel (fd_rl G c) (fd_sum G c a) (fd_ct G c))) := by
  unfold fd_H; rw [h]; exact ⟨fun x => x.2.1 rfl, fun x => ⟨fun e => absurd e (by decide), fun _ => x, fun e => absurd e (by decide), fun e => absurd e (by decide)⟩⟩
theorem fd_H3 {G : fd_FC} {c : Nat} {a : Nat → Nat} (h : fd_kd G c = 3) : fd_H G c a ↔ ∀ i j, i < j → j < fd_sz G c → (a (fd_sp G c i) : Int) + fd_nu G c i ≠ a (fd_sp G c j) + fd_nu G c j := by
  unfold fd_H; rw [h]; exact ⟨fun x => x.2.2.1 rfl, fun x => ⟨fun e => absurd e (by decide), fun e => absurd e (by decide), fun _ => x, fun e => absurd e (by decide)⟩⟩
theorem fd_H4 {G : fd_FC} {c : Nat} {a : Nat → Nat} (h : fd_kd G c = 4) : fd_H G c a ↔ (a (fd_fi G c) < fd_sz G c ∧ (a (fd_se G c) : Int) = fd_nu G c (a (fd_fi G c))) := by
  unfold fd_H; rw [h]; exact ⟨fun x => x.2.2.2 rfl, fun x => ⟨fun e => absurd e (by decide), fun e => absurd e (by decide), fun e => absurd e (by decide), fun _ => x⟩⟩
theorem fd_sum_dep {G : fd_FC} {c : Nat} {a b : Nat → Nat} (h : ∀ j, j < fd_sz G c → a (fd_sp G c j) = b (fd_sp G c j)) : fd_sum G c a = fd_sum G c b :=
  fd_sm_congr (fun i hi => by show fd_nu G c i * _ = fd_nu G c i * _; rw [h i hi])
theorem fd_dep {n : Nat} {G : fd_FC} {c : Nat} {a b : Nat → Nat} (w : fd_WF n G c) (h : ∀ v, fd_Sc G c v → a v = b v) (ha : fd_H G c a) : fd_H G c b := by
  rcases w with w | w | w | w
  · have hk := w.1
    have hs : ∀ j, j < fd_sz G c → a (fd_sp G c j) = b (fd_sp G c j) := fun j hj => h _ (Or.inr (Or.inl ⟨by rw [hk]; decide, j, hj, rfl⟩))
    rw [fd_H1 hk, fd_sum_dep hs] at ha
    exact (fd_H1 hk).mpr ha
  · have hk := w.1
    have hs : ∀ j, j < fd_sz G c → a (fd_sp G c j) = b (fd_sp G c j) := fun j hj => h _ (Or.inr (Or.inl ⟨by rw [hk]; decide, j, hj, rfl⟩))
    rw [fd_H2 hk, fd_sum_dep hs, h (fd_fi G c) (Or.inr (Or.inr ⟨hk, rfl⟩))] at ha
    exact (fd_H2 hk).mpr ha
  · have hk := w.1
    have hs : ∀ j, j < fd_sz G c → a (fd_sp G c j) = b (fd_sp G c j) := fun j hj => h _ (Or.inr (Or.inl ⟨by rw [hk]; decide, j, hj, rfl⟩))
    rw [fd_H3 hk] at ha
    refine (fd_H3 hk).mpr (fun i j hij hj => ?_)
    rw [← hs i (by omega), ← hs j hj]
    exact ha i j hij hj
  · have hk := w.1
    rw [fd_H4 hk, h (fd_fi G c) (Or.inl ⟨hk, Or.inl rfl⟩), h (fd_se G c) (Or.inl ⟨hk, Or.inr rfl⟩)] at ha
    exact (fd_H4 hk).mpr ha
theorem fd_Sc_lt {n : Nat} {G : fd_FC} {c v : Nat} (w : fd_WF n G c) (h : fd_Sc G c v) : v < n := by
  rcases w with w | w | w | w
  · rcases h with h | h | h
    · rw [w.1] at h; exact absurd h.1 (by decide)
    · obtain ⟨_, j, hj, e⟩ := h; rw [← e]; exact (w.2.1.2.2.1 j hj).1
    · rw [w.1] at h; exact absurd h.1 (by decide)
  · rcases h with h | h | h
    · rw [w.1] at h; exact absurd h.1 (by decide)
    · obtain ⟨_, j, hj, e⟩ := h; rw [← e]; exact (w.2.1.2.2.1 j hj).1
    · rw [h.2]; exact w.2.2.2.2.2.1
  · rcases h with h | h | h
    · rw [w.1] at h; exact absurd h.1 (by decide)
    · obtain ⟨_, j, hj, e⟩ := h; rw [← e]; exact (w.2.1.2.2.1 j hj).1
    · rw [w.1] at h; exact absurd h.1 (by decide)
  · rcases h with h | h | h
    · rcases h.2 with e | e
      · rw [e]; exact w.2.1
      · rw [e]; exact w.2.2.2.1
    · exact absurd w.1 h.1
    · rw [w.1] at h; exact absurd h.1 (by decide)
theorem fd_Sc_ex {n : Nat} {G : fd_FC} {c : Nat} (w : fd_WF n G c) : ∃ v, fd_Sc G c v := by
  rcases w with w | w | w | w
  · exact ⟨fd_sp G c 0, Or.inr (Or.inl ⟨by rw [w.1]; decide, 0, w.2.2.1, rfl⟩)⟩
  · exact ⟨fd_sp G c 0, Or.inr (Or.inl ⟨by rw [w.1]; decide, 0, w.2.2.1, rfl⟩)⟩
  · exact ⟨fd_sp G c 0, Or.inr (Or.inl ⟨by rw [w.1]; decide, 0, w.2.2, rfl⟩)⟩
  · exact ⟨fd_fi G c, Or.inl ⟨w.1, Or.inl rfl⟩⟩
def fd_PJ (n : Nat) (W : Nat → Int32) (P : (Nat → Nat) → Prop) (v d : Nat) : Prop := ∃ a, fd_In n W a ∧ P a ∧ a v = d
def fd_Sub (n : Nat) (W W' : Nat → Int32) : Prop := ∀ v, v < n → ∀ d, bt (W v) d = true → bt (W' v) d = true
def fd_NE (n : Nat) (W : Nat → Int32) : Prop := ∀ v, v < n → W v ≠ 0
def fd_Clo (n : Nat) (G : fd_FC) (W : Nat → Int32) (c : Nat) : Prop := ∀ v, fd_Sc G c v → ∀ d, bt (W v) d = true → fd_PJ n W (fd_H G c) v d
def fd_Good (n m : Nat) (G : fd_FC) (W : Nat → Int32) : Prop := fd_NE n W ∧ ∀ c, c < m → fd_Clo n G W c
def fd_Max (n m : Nat) (G : fd_FC) (D W : Nat → Int32) : Prop := fd_Good n m G W ∧ fd_Sub n W D ∧ ∀ E, fd_Good n m G E → fd_Sub n E D → fd_Sub n E W
def fd_Non (n m : Nat) (G : fd_FC) (D : Nat → Int32) : Prop := ∀ E, fd_Good n m G E → ¬ fd_Sub n E D
def fd_Res (n m : Nat) (G : fd_FC) (D : Nat → Int32) (r : Int32) (W : Nat → Int32) : Prop := (r = 1 ∧ fd_Max n m G D W) ∨ (r = 0 ∧ fd_Non n m G D)
theorem fd_In_sub {n : Nat} {W W' : Nat → Int32} {a : Nat → Nat} (h : fd_Sub n W W') (ha : fd_In n W a) : fd_In n W' a := fun v hv => h v hv _ (ha v hv)
theorem fd_Sub_tr {n : Nat} {A B C : Nat → Int32} (h : fd_Sub n A B) (k : fd_Sub n B C) : fd_Sub n A C := fun v hv d hd => k v hv d (h v hv d hd)
theorem fd_Sub_rf {n : Nat} {A : Nat → Int32} : fd_Sub n A A := fun _ _ _ h => h
theorem fd_Sub_eq {n : Nat} {A B : Nat → Int32} (h : fd_Sub n A B) (k : fd_Sub n B A) : ∀ v, v < n → A v = B v := by
  intro v hv
  apply b_ext
  intro i _
  cases e : bt (A v) i with
  | true => rw [h v hv i e]
  | false =>
    cases e2 : bt (B v) i with
    | false => rfl
    | true => rw [k v hv i e2] at e; exact absurd e (by decide)
/-- any assignment of non-empty domains -/
theorem fd_In_lo {n : Nat} {W : Nat → Int32} (h : fd_NE n W) : fd_In n W (fun v => fd_lo (W v)) := fun v hv => fd_lo_in (h v hv)
def fd_up (a : Nat → Nat) (v d : Nat) : Nat → Nat := fun u => if u = v then d else a u
theorem fd_up_s (a : Nat → Nat) (v d : Nat) : fd_up a v d v = d := if_pos rfl
theorem fd_up_n (a : Nat → Nat) {v d u : Nat} (h : u ≠ v) : fd_up a v d u = a u := if_neg h
theorem fd_In_up {n : Nat} {W : Nat → Int32} {a : Nat → Nat} {v d : Nat} (h : fd_In n W a) (hd : bt (W v) d = true) : fd_In n W (fd_up a v d) := by
  intro u hu
  by_cases e : u = v
  · rw [e, fd_up_s]; exact hd
  · rw [fd_up_n a e]; exact h u hu
section
variable {n m : Nat} {G : fd_FC}
/-- in a good set every value has a witness, in the scope or out of it -/
theorem fd_Good_PJ {E : Nat → Int32} {c : Nat} (w : fd_WF n G c) (hE : fd_NE n E) (hC : fd_Clo n G E c) {v d : Nat} (hv : v < n) (hd : bt (E v) d = true) : fd_PJ n E (fd_H G c) v d := by
  by_cases hs : fd_Sc G c v
  · exact hC v hs d hd
  · obtain ⟨v0, hv0⟩ := fd_Sc_ex w
    obtain ⟨d0, hd0⟩ := fd_ne0.mp (hE v0 (fd_Sc_lt w hv0))
    obtain ⟨a, ha, hH, _⟩ := hC v0 hv0 d0 hd0
    refine ⟨fd_up a v d, fd_In_up ha hd, fd_dep w (fun u hu => ?_) hH, fd_up_s a v d⟩
    rw [fd_up_n a (fun e : u = v => hs (e ▸ hu))]
theorem fd_PJ_mono {A B : Nat → Int32} {P : (Nat → Nat) → Prop} {v d : Nat} (h : fd_Sub n A B) (hp : fd_PJ n A P v d) : fd_PJ n B P v d := by
  obtain ⟨a, x, y, z⟩ := hp
  exact ⟨a, fd_In_sub h x, y, z⟩
theorem fd_Good_sol {E : Nat → Int32} {c : Nat} (w : fd_WF n G c) (hE : fd_NE n E) (hC : fd_Clo n G E c) : ∃ a, fd_In n E a ∧ fd_H G c a := by
  obtain ⟨v0, hv0⟩ := fd_Sc_ex w
  obtain ⟨d0, hd0⟩ := fd_ne0.mp (hE v0 (fd_Sc_lt w hv0))
  obtain ⟨a, ha, hH, _⟩ := hC v0 hv0 d0 hd0
  exact ⟨a, ha, hH⟩
/-- the vector of the single values of a -/
def fd_sg (a : Nat → Nat) : Nat → Int32 := fun v => (1 : Int32) <<< (nI (a v) &&& 31)
theorem fd_sg_bt {W : Nat → Int32} {a : Nat → Nat} (h : fd_In n W a) {v : Nat} (hv : v < n) (d : Nat) : bt (fd_sg a v) d = true ↔ d = a v := by
  unfold fd_sg
  rw [fd_b1 (fd_lt (h v hv))]
  exact decide_eq_true_iff
theorem fd_sg_in {W : Nat → Int32} {a : Nat → Nat} (h : fd_In n W a) : fd_In n (fd_sg a) a := fun _ hv => (fd_sg_bt h hv _).mpr rfl
theorem fd_sg_sub {W : Nat → Int32} {a : Nat → Nat} (h : fd_In n W a) : fd_Sub n (fd_sg a) W := fun v hv d hd => by
  rw [(fd_sg_bt h hv d).mp hd]; exact h v hv
theorem fd_sg_good {W : Nat → Int32} {a : Nat → Nat} (hw : ∀ c, c < m → fd_WF n G c) (h : fd_In n W a) (hH : ∀ c, c < m → fd_H G c a) : fd_Good n m G (fd_sg a) :=
  ⟨fun v hv => fd_ne0.mpr ⟨a v, (fd_sg_bt h hv _).mpr rfl⟩, fun c hc v hs d hd => ⟨a, fd_sg_in h, hH c hc, ((fd_sg_bt h (fd_Sc_lt (hw c hc) hs) d).mp hd).symm⟩⟩
theorem fd_Max_sol {D W : Nat → Int32} {a : Nat → Nat} (hw : ∀ c, c < m → fd_WF n G c) (hM : fd_Max n m G D W) (h : fd_In n D a) (hH : ∀ c, c < m → fd_H G c a) : fd_In n W a :=
  fd_In_sub (hM.2.2 _ (fd_sg_good hw h hH) (fd_sg_sub h)) (fd_sg_in h)
theorem fd_Non_sol {D : Nat → Int32} {a : Nat → Nat} (hw : ∀ c, c < m → fd_WF n G c) (hN : fd_Non n m G D) (h : fd_In n D a) : ¬ ∀ c, c < m → fd_H G c a :=
  fun hH => hN _ (fd_sg_good hw h hH) (fd_sg_sub h)
theorem fd_Max_un {D A B : Nat → Int32} (h : fd_Max n m G D A) (k : fd_Max n m G D B) : ∀ v, v < n → A v = B v :=
  fd_Sub_eq (k.2.2 A h.1 h.2.1) (h.2.2 B k.1 k.2.1)
theorem fd_Good_congr {A B : Nat → Int32} (hw : ∀ c, c < m → fd_WF n G c) (h : ∀ v, v < n → A v = B v) (k : fd_Good n m G A) : fd_Good n m G B := by
  have s : fd_Sub n A B := fun v hv d hd => by rw [← h v hv]; exact hd
  refine ⟨fun v hv => by rw [← h v hv]; exact k.1 v hv, fun c hc v hs d hd => ?_⟩
  rw [← h v (fd_Sc_lt (hw c hc) hs)] at hd
  exact fd_PJ_mono s (k.2 c hc v hs d hd)
/-! one exact revision -/
/-- r, W': the outcome of an exact filter for P from W -/
def fd_Rev (n : Nat) (W : Nat → Int32) (P : (Nat → Nat) → Prop) (r : Int32) (W' : Nat → Int32) : Prop :=
  (r = 1 ∧ (∀ v, v < n → ∀ d, bt (W' v) d = true ↔ fd_PJ n W P v d) ∧ fd_NE n W') ∨ (r = 0 ∧ ∀ a, fd_In n W a → ¬ P a)
/-- W, p became W', p' by narrowings -/
def fd_Nar (n : Nat) (wt W : Nat → Int32) (p : Int32) (W' : Nat → Int32) (p' : Int32) : Prop :=
  (∀ v d, bt (W' v) d = true → bt (W v) d = true) ∧ (∀ i, bt p' i = true ↔ (bt p i = true ∨ ∃ v, v < n ∧ W' v ≠ W v ∧ bt (wt v) i = true))
theorem fd_Nar_rf {wt W : Nat → Int32} {p : Int32} : fd_Nar n wt W p W p :=
  ⟨fun _ _ h => h, fun i => ⟨Or.inl, fun h => h.elim id (fun ⟨v, _, e, _⟩ => absurd rfl e)⟩⟩
theorem fd_Nar_tr {wt A B C : Nat → Int32} {p q r : Int32} (h : fd_Nar n wt A p B q) (k : fd_Nar n wt B q C r) : fd_Nar n wt A p C r := by
  refine ⟨fun v d hd => h.1 v d (k.1 v d hd), fun i => ?_⟩
  rw [k.2 i, h.2 i]
  constructor
  · rintro ((a | ⟨v, hv, e, w⟩) | ⟨v, hv, e, w⟩)
    · exact Or.inl a
    · refine Or.inr ⟨v, hv, fun e2 => e ?_, w⟩
      apply b_ext
      intro i _
      cases c : bt (B v) i with
      | true => exact (h.1 v i c).symm
      | false =>
        cases c2 : bt (A v) i with
        | false => rfl
        | true => rw [← e2] at c2; rw [k.1 v i c2] at c; exact absurd c (by decide)
    · by_cases e2 : C v = A v
      · refine absurd ?_ e
        apply b_ext
        intro i _
        cases c : bt (B v) i with
        | true => have := h.1 v i c; rw [← e2] at this; exact this
        | false =>
          cases c2 : bt (C v) i with
          | false => rfl
          | true => rw [k.1 v i c2] at c; exact absurd c (by decide)
      · exact Or.inr ⟨v, hv, e2, w⟩
  · rintro (a | ⟨v, hv, e, w⟩)
    · exact Or.inl (Or.inl a)
    · by_cases e2 : B v = A v
      · exact Or.inr ⟨v, hv, by rw [e2]; exact e, w⟩
      · exact Or.inl (Or.inr ⟨v, hv, e2, w⟩)
theorem fd_upd_self {f : Nat → Int32} {v : Nat} : upd f v (f v) = f := by
  funext j
  by_cases e : j = v
  · rw [e]; exact pk_us
  · exact pk_un e
theorem fd_Nar_1 {wt W : Nat → Int32} {p k : Int32} {v : Nat} (hv : v < n) : fd_Nar n wt W p (upd W v (W v &&& k)) (if (W v &&& k) = W v then p else p ||| wt v) := by
  refine ⟨fun u d h => ?_, fun i => ?_⟩
  · by_cases e : u = v
    · rw [e, pk_us, b_and, Bool.and_eq_true] at h; rw [e]; exact h.1
    · rw [pk_un e] at h; exact h
  · by_cases c : (W v &&& k) = W v
    · rw [if_pos c, c, fd_upd_self]
      exact ⟨Or.inl, fun h => h.elim id (fun ⟨v, _, e, _⟩ => absurd rfl e)⟩
    · rw [if_neg c, b_or, Bool.or_eq_true]
      constructor
      · rintro (a | a)
        · exact Or.inl a
        · exact Or.inr ⟨v, hv, by rw [pk_us]; exact c, a⟩
      · rintro (a | ⟨u, hu, e, w⟩)
        · exact Or.inl a
        · by_cases e2 : u = v
          · rw [e2] at w; exact Or.inr w
          · rw [pk_un e2] at e; exact absurd rfl e
/-- W lies between W0 and the solutions of P in it -/
def fd_Mid (n : Nat) (W0 : Nat → Int32) (P : (Nat → Nat) → Prop) (W : Nat → Int32) : Prop := fd_Sub n W W0 ∧ ∀ a, fd_In n W0 a → P a → fd_In n W a
theorem fd_Mid_rf {W : Nat → Int32} {P : (Nat → Nat) → Prop} : fd_Mid n W P W := ⟨fd_Sub_rf, fun _ h _ => h⟩
theorem fd_Mid_PJ {W0 W : Nat → Int32} {P : (Nat → Nat) → Prop} (h : fd_Mid n W0 P W) {v d : Nat} : fd_PJ n W P v d ↔ fd_PJ n W0 P v d :=
  ⟨fd_PJ_mono h.1, fun ⟨a, x, y, z⟩ => ⟨a, h.2 a x y, y, z⟩⟩
/-- narrowing v to just the supported values stays between -/
theorem fd_Mid_1 {W0 W : Nat → Int32} {P : (Nat → Nat) → Prop} {v : Nat} {k : Int32} (hv : v < n) (h : fd_Mid n W0 P W) (hk : ∀ d, bt (W v) d = true → fd_PJ n W0 P v d → bt k d = true) : fd_Mid n W0 P (upd W v (W v &&& k)) := by
  refine ⟨fun u hu d hd => ?_, fun a ha hP u hu => ?_⟩
  · by_cases e : u = v
    · rw [e, pk_us, b_and, Bool.and_eq_true] at hd; rw [e]; exact h.1 v hv d hd.1
    · rw [pk_un e] at hd; exact h.1 u hu d hd
  · have hb := h.2 a ha hP u hu
    by_cases e : u = v
    · rw [e] at hb ⊢
      rw [pk_us, b_and, hb, hk (a v) hb ⟨a, ha, hP, rfl⟩]; rfl
    · rw [pk_un e]; exact hb
/-- a filter that made all variables of the scope exact is exact -/
theorem fd_fin {W0 W : Nat → Int32} {P : (Nat → Nat) → Prop} {S : Nat → Prop} (hdep : ∀ a b : Nat → Nat, (∀ v, S v → a v = b v) → P a → P b) (hM : fd_Mid n W0 P W) (hS : ∀ v, v < n → S v → ∀ d, bt (W v) d = true → fd_PJ n W0 P v d) (a0 : Nat → Nat) (h0 : fd_In n W0 a0) (hP0 : P a0) : fd_Rev n W0 P 1 W := by
  refine Or.inl ⟨rfl, fun v hv d => ⟨fun hd => ?_, fun ⟨a, x, y, z⟩ => ?_⟩, fun v hv => fd_ne0.mpr ⟨a0 v, hM.2 a0 h0 hP0 v hv⟩⟩
  · by_cases hs : S v
    · exact hS v hv hs d hd
    · refine ⟨fd_up a0 v d, fd_In_up h0 (hM.1 v hv d hd), hdep a0 _ (fun u hu => ?_) hP0, fd_up_s a0 v d⟩
      rw [fd_up_n a0 (fun e : u = v => hs (e ▸ hu))]
  · rw [← z]; exact hM.2 a x y v hv
/-! propagation -/
def fd_Wt (n m : Nat) (G : fd_FC) (wt : Nat → Int32) : Prop := (∀ v c, c < m → fd_Sc G c v → bt (wt v) c = true) ∧ (∀ v i, v < n → bt (wt v) i = true → i < m)
/-- X's state of propagation: D at the start, W and p now -/
def fd_Pro (n m : Nat) (G : fd_FC) (D W : Nat → Int32) (p : Int32) : Prop :=
  fd_NE n W ∧ (∀ c, c < m → bt p c = false → fd_Clo n G W c) ∧ (∀ i, bt p i = true → i < m) ∧ fd_Sub n W D ∧ (∀ E, fd_Good n m G E → fd_Sub n E D → fd_Sub n E W)
theorem fd_Pro_end {D W : Nat → Int32} {p : Int32} (h : fd_Pro n m G D W p) (hp : p = 0) : fd_Max n m G D W :=
  ⟨⟨h.1, fun c hc => h.2.1 c hc (by rw [hp, b_0])⟩, h.2.2.2.1, h.2.2.2.2⟩
theorem fd_Rev_in {W W' : Nat → Int32} {P : (Nat → Nat) → Prop} {a : Nat → Nat} (h : ∀ v, v < n → ∀ d, bt (W' v) d = true ↔ fd_PJ n W P v d) (ha : fd_In n W a) (hP : P a) : fd_In n W' a := fun v hv => (h v hv _).mpr ⟨a, ha, hP, rfl⟩
theorem fd_Pro_step {D W W' wt : Nat → Int32} {p p' : Int32} {c : Nat} (hw : ∀ c, c < m → fd_WF n G c) (ht : fd_Wt n m G wt) (h : fd_Pro n m G D W p) (hc : c < m) {p1 : Int32} (hp1 : ∀ i, bt p1 i = true ↔ (bt p i = true ∧ i ≠ c)) (hN : fd_Nar n wt W p1 W' p') (hR : fd_Rev n W (fd_H G c) 1 W') : fd_Pro n m G D W' p' := by
  rcases hR with ⟨_, hx, hne⟩ | ⟨h1, _⟩
  · refine ⟨hne, fun c' hc' hb => ?_, fun i hi => ?_, fun v hv d hd => ?_, fun E hE hs v hv d hd => ?_⟩
    · by_cases e : c' = c
      · subst e
        intro v hs d hd
        obtain ⟨a, ha, hH, e⟩ := (hx v (fd_Sc_lt (hw c' hc') hs) d).mp hd
        exact ⟨a, fd_Rev_in hx ha hH, hH, e⟩
      · have hb1 : bt p c' = false := by
          cases q : bt p c' with
          | false => rfl
          | true => rw [(hN.2 c').mpr (Or.inl ((hp1 c').mpr ⟨q, e⟩))] at hb; exact absurd hb (by decide)
        have heq : ∀ v, fd_Sc G c' v → W' v = W v := fun v hs => Classical.byContradiction (fun q => by
          rw [(hN.2 c').mpr (Or.inr ⟨v, fd_Sc_lt (hw c' hc') hs, q, ht.1 v c' hc' hs⟩)] at hb; exact absurd hb (by decide))
        intro v hs d hd
        rw [heq v hs] at hd
        obtain ⟨a, ha, hH, e2⟩ := h.2.1 c' hc' hb1 v hs d hd
        have dec := fun u => Classical.propDecidable (fd_Sc G c' u)
        refine ⟨fun u => if fd_Sc G c' u then a u else fd_lo (W' u), fun u hu => ?_, fd_dep (hw c' hc') (fun u hu => ?_) hH, ?_⟩
        · show bt (W' u) (if fd_Sc G c' u then a u else fd_lo (W' u)) = true
          by_cases q : fd_Sc G c' u
          · rw [if_pos q, heq u q]; exact ha u hu
          · rw [if_neg q]; exact fd_lo_in (hne u hu)
        · show a u = if fd_Sc G c' u then a u else fd_lo (W' u)
          rw [if_pos hu]
        · show (if fd_Sc G c' v then a v else fd_lo (W' v)) = d
          rw [if_pos hs]; exact e2
    · rcases (hN.2 i).mp hi with q | ⟨v, hv, _, q⟩
      · exact h.2.2.1 i ((hp1 i).mp q).1
      · exact ht.2 v i hv q
    · exact h.2.2.2.1 v hv d (hN.1 v d hd)
    · exact (hx v hv d).mpr (fd_PJ_mono (h.2.2.2.2 E hE hs) (fd_Good_PJ (hw c hc) hE.1 (hE.2 c hc) hv hd))
  · exact absurd h1 (by decide)
theorem fd_Pro_fail {D W : Nat → Int32} {p : Int32} {c : Nat} (hw : ∀ c, c < m → fd_WF n G c) (h : fd_Pro n m G D W p) (hc : c < m) (hR : ∀ a, fd_In n W a → ¬ fd_H G c a) : fd_Non n m G D := by
  intro E hE hs
  obtain ⟨a, ha, hH⟩ := fd_Good_sol (hw c hc) hE.1 (hE.2 c hc)
  exact hR a (fd_In_sub (h.2.2.2.2 E hE hs) ha) hH
/-- the measure of X's propagation -/
def fd_mu (n : Nat) (W : Nat → Int32) (p : Int32) : Nat := 12 * fd_ns (fun v => fd_pc (W v)) n + fd_cn (bt p) 12
theorem fd_mu_le (W : Nat → Int32) (p : Int32) (hn : n ≤ 8) : fd_mu n W p ≤ 3084 := by
  have a := fd_ns_bd (f := fun v => fd_pc (W v)) (n := n) (B := 32) (fun v _ => fd_pc_le (W v))
  have b := fd_cn_le (bt p) 12
  unfold fd_mu
  omega
theorem fd_mu_step {W W' wt : Nat → Int32} {p p1 p' : Int32} {c : Nat} (hc : c < 12) (hpc : bt p c = true) (hp1 : ∀ i, bt p1 i = true ↔ (bt p i = true ∧ i ≠ c)) (hN : fd_Nar n wt W p1 W' p') : fd_mu n W' p' < fd_mu n W p := by
  have m1 : ∀ v, v < n → (fun v => fd_pc (W' v)) v ≤ (fun v => fd_pc (W v)) v := fun v _ => fd_pc_mono (hN.1 v)
  by_cases e : ∃ v, v < n ∧ W' v ≠ W v
  · obtain ⟨v, hv, e⟩ := e
    have a : fd_ns (fun v => fd_pc (W' v)) n < fd_ns (fun v => fd_pc (W v)) n := fd_ns_lt m1 hv (fd_pc_lt (hN.1 v) e)
    have b := fd_cn_le (bt p') 12
    have d := fd_cn_pos (p := bt p) hc hpc
    unfold fd_mu; omega
  · have a : fd_ns (fun v => fd_pc (W' v)) n ≤ fd_ns (fun v => fd_pc (W v)) n := fd_ns_mono m1
    have b : fd_cn (bt p') 12 < fd_cn (bt p) 12 := fd_cn_mlt (i := c) (fun i _ hi => by
      rcases (hN.2 i).mp hi with q | ⟨v, hv, q, _⟩
      · exact ((hp1 i).mp q).1
      · exact absurd ⟨v, hv, q⟩ e) hc hpc (by
      cases q : bt p' c with
      | false => rfl
      | true =>
        rcases (hN.2 c).mp q with q | ⟨v, hv, q, _⟩
        · exact absurd rfl ((hp1 c).mp q).2
        · exact absurd ⟨v, hv, q⟩ e)
    unfold fd_mu; omega
end
end
section
/-! ===== X: methods that only read ===== -/
theorem fd_in8 {v : Nat} (h : v < 8) : vp_in (nI v) 8 := vp_in_nI h (by omega)
section
variable {f_objectiveSlot f_maxVariables f_maxConstraints f_maxDepth f_variables f_space f_failed f_terms f_cells f_constraints f_level f_mode f_found f_exhausted f_hasCurrent f_objective f_pending : Int32} {f_matched : Int64} {f_depth f_guided f_bounded : Int32} {a_dom a_watch a_order a_direction a_termA a_termV a_cellX a_kind a_relation a_constant a_first a_second a_size a_number a_scope a_savedDom a_savedConstraints a_decidedVariable a_decidedValue a_current a_work a_sums a_grown : Nat → Int32} {a_image : Nat → Int64} {a_mate a_parent a_queue a_reach a_frames a_left : Nat → Int32} {post : Int32 → Prop}
theorem fd_xlo_l {m : Int32} (h : post (nI (fd_lo m))) : ∀ k i, i + k = 32 → fd_fs (bt m) k i = fd_lo m → ∀ n, k < n → wX_lowest_2 post m f_objectiveSlot f_maxVariables f_maxConstraints f_maxDepth f_variables f_space f_failed f_terms f_cells f_constraints f_level f_mode f_found f_exhausted f_hasCurrent f_objective f_pending f_matched f_depth f_guided f_bounded a_dom a_watch a_order a_direction a_termA a_termV a_cellX a_kind a_relation a_constant a_first a_second a_size a_number a_scope a_savedDom a_savedConstraints a_decidedVariable a_decidedValue a_current a_work a_sums a_grown a_image a_mate a_parent a_queue a_reach a_frames a_left n (nI i) := by
  intro k
  induction k with
  | zero =>
    intro i hi e n hn
    obtain ⟨n, rfl⟩ : ∃ q, n = q + 1 := ⟨n - 1, by omega⟩
    have e' : fd_lo m = 0 := e.symm
    rw [e'] at h
    exact pk_le 32 i (fun _ => h) (fun c => absurd c (by omega))
  | succ k ih =>
    intro i hi e n hn
    obtain ⟨n, rfl⟩ : ∃ q, n = q + 1 := ⟨n - 1, by omega⟩
    refine pk_le 32 i (fun c => absurd c (by omega)) (fun _ => ?_)
    unfold fd_fs at e
    by_cases hb : bt m i = true
    · rw [if_pos hb] at e
      rw [← e] at h
      exact br_f ((fd_nbit m (by omega)).mpr hb) h
    · rw [if_neg hb] at e
      exact br_t ((fd_bit m (by omega)).mpr (by simpa using hb)) (nm_r (nI_1 i) (ih (i + 1) (by omega) e n (by omega)))
theorem fd_xlo {m : Int32} (h : post (nI (fd_lo m))) : wpX_lowest post (f_objectiveSlot, f_maxVariables, f_maxConstraints, f_maxDepth, f_variables, f_space, f_failed, f_terms, f_cells, f_constraints, f_level, f_mode, f_found, f_exhausted, f_hasCurrent, f_objective, f_pending, f_matched, f_depth, f_guided, f_bounded, a_dom, a_watch, a_order, a_direction, a_termA, a_termV, a_cellX, a_kind, a_relation, a_constant, a_first, a_second, a_size, a_number, a_scope, a_savedDom, a_savedConstraints, a_decidedVariable, a_decidedValue, a_current, a_work, a_sums, a_grown, a_image, a_mate, a_parent, a_queue, a_reach, a_frames, a_left) m := ⟨33, fd_xlo_l h 32 0 rfl rfl 33 (by omega)⟩
theorem fd_xgr_l {m : Int32} (h : post (nI (fd_gr m))) : ∀ i, i < 32 → fd_gs (bt m) i = fd_gr m → ∀ n, i < n → wX_greatest_3 post m f_objectiveSlot f_maxVariables f_maxConstraints f_maxDepth f_variables f_space f_failed f_terms f_cells f_constraints f_level f_mode f_found f_exhausted f_hasCurrent f_objective f_pending f_matched f_depth f_guided f_bounded a_dom a_watch a_order a_direction a_termA a_termV a_cellX a_kind a_relation a_constant a_first a_second a_size a_number a_scope a_savedDom a_savedConstraints a_decidedVariable a_decidedValue a_current a_work a_sums a_grown a_image a_mate a_parent a_queue a_reach a_frames a_left n (nI i) := by
  intro i
  induction i with
  | zero =>
    intro hi e n hn
    obtain ⟨n, rfl⟩ : ∃ q, n = q + 1 := ⟨n - 1, by omega⟩
    have e' : fd_gr m = 0 := e.symm
    rw [e'] at h
    exact pk_le 0 0 (fun _ => h) (fun c => absurd c (by omega))
  | succ i ih =>
    intro hi e n hn
    obtain ⟨n, rfl⟩ : ∃ q, n = q + 1 := ⟨n - 1, by omega⟩
    refine pk_le (i + 1) 0 (fun c => absurd c (by omega)) (fun _ => ?_)
    unfold fd_gs at e
    by_cases hb : bt m (i + 1) = true
    · rw [if_pos hb] at e
      rw [← e] at h
      exact br_f ((fd_nbit m (by omega)).mpr hb) h
    · rw [if_neg hb] at e
      exact br_t ((fd_bit m (by omega)).mpr (by simpa using hb)) (nm_r (pk_m1 i) (ih (by omega) e n (by omega)))
theorem fd_xgr {m : Int32} (h : post (nI (fd_gr m))) : wpX_greatest post (f_objectiveSlot, f_maxVariables, f_maxConstraints, f_maxDepth, f_variables, f_space, f_failed, f_terms, f_cells, f_constraints, f_level, f_mode, f_found, f_exhausted, f_hasCurrent, f_objective, f_pending, f_matched, f_depth, f_guided, f_bounded, a_dom, a_watch, a_order, a_direction, a_termA, a_termV, a_cellX, a_kind, a_relation, a_constant, a_first, a_second, a_size, a_number, a_scope, a_savedDom, a_savedConstraints, a_decidedVariable, a_decidedValue, a_current, a_work, a_sums, a_grown, a_image, a_mate, a_parent, a_queue, a_reach, a_frames, a_left) m := ⟨32, fd_xgr_l h 31 (by omega) rfl 32 (by omega)⟩
theorem fd_xbits_l {m : Int32} (h : post (nI (fd_pc m))) : ∀ k i, i + k = 32 → ∀ n, k < n → wX_bits_4 post m f_objectiveSlot f_maxVariables f_maxConstraints f_maxDepth f_variables f_space f_failed f_terms f_cells f_constraints f_level f_mode f_found f_exhausted f_hasCurrent f_objective f_pending f_matched f_depth f_guided f_bounded a_dom a_watch a_order a_direction a_termA a_termV a_cellX a_kind a_relation a_constant a_first a_second a_size a_number a_scope a_savedDom a_savedConstraints a_decidedVariable a_decidedValue a_current a_work a_sums a_grown a_image a_mate a_parent a_queue a_reach a_frames a_left n (nI (fd_cn (bt m) i)) (nI i) := by
  intro k
  induction k with
  | zero =>
    intro i hi n hn
    obtain ⟨n, rfl⟩ : ∃ q, n = q + 1 := ⟨n - 1, by omega⟩
    have e : i = 32 := by omega
    subst e
    exact pk_le 32 32 (fun _ => h) (fun c => absurd c (by omega))
  | succ k ih =>
    intro i hi n hn
    obtain ⟨n, rfl⟩ : ∃ q, n = q + 1 := ⟨n - 1, by omega⟩
    refine pk_le 32 i (fun c => absurd c (by omega)) (fun _ => ?_)
    have e : nI (fd_cn (bt m) i) + ((m.toUInt32 >>> ((nI i).toUInt32 &&& Int32.toUInt32 31)).toInt32 &&& 1) = nI (fd_cn (bt m) (i + 1)) := by
      rw [fd_u1 m (by omega)]
      by_cases hb : bt m i = true
      · rw [if_pos hb, fd_cn_t hb, nI_1]
      · rw [if_neg hb, fd_cn_f (by simpa using hb)]
        exact nI_add _ 0
    exact nm_r e (nm_r (nI_1 i) (ih (i + 1) (by omega) n (by omega)))
theorem fd_xbits {m : Int32} (h : post (nI (fd_pc m))) : wpX_bits post (f_objectiveSlot, f_maxVariables, f_maxConstraints, f_maxDepth, f_variables, f_space, f_failed, f_terms, f_cells, f_constraints, f_level, f_mode, f_found, f_exhausted, f_hasCurrent, f_objective, f_pending, f_matched, f_depth, f_guided, f_bounded, a_dom, a_watch, a_order, a_direction, a_termA, a_termV, a_cellX, a_kind, a_relation, a_constant, a_first, a_second, a_size, a_number, a_scope, a_savedDom, a_savedConstraints, a_decidedVariable, a_decidedValue, a_current, a_work, a_sums, a_grown, a_image, a_mate, a_parent, a_queue, a_reach, a_frames, a_left) m := ⟨33, fd_xbits_l h 32 0 rfl 33 (by omega)⟩
theorem fd_xsingle {m : Int32} (h : post (if (m &&& (m - 1)) = 0 then 1 else 0)) : wpX_isSingle post (f_objectiveSlot, f_maxVariables, f_maxConstraints, f_maxDepth, f_variables, f_space, f_failed, f_terms, f_cells, f_constraints, f_level, f_mode, f_found, f_exhausted, f_hasCurrent, f_objective, f_pending, f_matched, f_depth, f_guided, f_bounded, a_dom, a_watch, a_order, a_direction, a_termA, a_termV, a_cellX, a_kind, a_relation, a_constant, a_first, a_second, a_size, a_number, a_scope, a_savedDom, a_savedConstraints, a_decidedVariable, a_decidedValue, a_current, a_work, a_sums, a_grown, a_image, a_mate, a_parent, a_queue, a_reach, a_frames, a_left) m := by
  by_cases c : (m &&& (m - 1)) = 0
  · rw [if_pos c] at h; exact br_t c h
  · rw [if_neg c] at h; exact br_f c h
theorem fd_xpref {v : Nat} {m : Int32} (hv : v < 8) (h : post (nI (if a_direction v = 0 then fd_lo m else fd_gr m))) : wpX_preferred post (f_objectiveSlot, f_maxVariables, f_maxConstraints, f_maxDepth, f_variables, f_space, f_failed, f_terms, f_cells, f_constraints, f_level, f_mode, f_found, f_exhausted, f_hasCurrent, f_objective, f_pending, f_matched, f_depth, f_guided, f_bounded, a_dom, a_watch, a_order, a_direction, a_termA, a_termV, a_cellX, a_kind, a_relation, a_constant, a_first, a_second, a_size, a_number, a_scope, a_savedDom, a_savedConstraints, a_decidedVariable, a_decidedValue, a_current, a_work, a_sums, a_grown, a_image, a_mate, a_parent, a_queue, a_reach, a_frames, a_left) (nI v) m := by
  refine ⟨pk_in v 8 hv, ?_⟩
  have e : (nI v).toNatClampNeg = v := pk_cl v
  by_cases c : a_direction v = 0
  · rw [if_pos c] at h
    exact br_t (by rw [e]; exact c) (fd_xlo h)
  · rw [if_neg c] at h
    exact br_f (by rw [e]; exact c) (fd_xgr h)
end
end
section
/-! ===== X: least sums ===== -/
theorem fd_mb {a g : Int} (h1 : -8 ≤ a) (h2 : a ≤ 8) (h3 : 0 ≤ g) (h4 : g ≤ 31) : -248 ≤ a * g ∧ a * g ≤ 248 := by
  have x := Int.mul_le_mul_of_nonneg_right h2 h3
  have y := Int.mul_le_mul_of_nonneg_right h1 h3
  omega
theorem fd_sb {s a : Int} (hs : s = 1 ∨ s = -1) (h1 : -8 ≤ a) (h2 : a ≤ 8) : -8 ≤ s * a ∧ s * a ≤ 8 := by
  rcases hs with e | e <;> subst e <;> omega
/-- least value of s * (term j) in the domains W -/
def fd_tl (G : fd_FC) (c : Nat) (W : Nat → Int32) (s : Int) (j : Nat) : Int :=
  (s * fd_nu G c j) * (if s * fd_nu G c j < 0 then (fd_gr (W (fd_sp G c j)) : Int) else (fd_lo (W (fd_sp G c j)) : Int))
def fd_ls (G : fd_FC) (c : Nat) (W : Nat → Int32) (s : Int) : Int := fd_sm (fd_tl G c W s) (fd_sz G c)
theorem fd_tl_le {G : fd_FC} {c : Nat} {W : Nat → Int32} {s : Int} {j d : Nat} (h : bt (W (fd_sp G c j)) d = true) : fd_tl G c W s j ≤ (s * fd_nu G c j) * (d : Int) := by
  unfold fd_tl
  by_cases e : s * fd_nu G c j < 0
  · rw [if_pos e]
    have := fd_gr_ge h
    exact Int.mul_le_mul_of_nonpos_left (by omega) (by omega)
  · rw [if_neg e]
    have := fd_lo_le h
    exact Int.mul_le_mul_of_nonneg_left (by omega) (by omega)
/-- the value at which it is taken -/
def fd_ta (G : fd_FC) (c : Nat) (W : Nat → Int32) (s : Int) (j : Nat) : Nat := if s * fd_nu G c j < 0 then fd_gr (W (fd_sp G c j)) else fd_lo (W (fd_sp G c j))
theorem fd_ta_in {G : fd_FC} {c : Nat} {W : Nat → Int32} {s : Int} {j : Nat} (h : W (fd_sp G c j) ≠ 0) : bt (W (fd_sp G c j)) (fd_ta G c W s j) = true := by
  unfold fd_ta; split
  · exact fd_gr_in h
  · exact fd_lo_in h
theorem fd_tl_ta (G : fd_FC) (c : Nat) (W : Nat → Int32) (s : Int) (j : Nat) : fd_tl G c W s j = (s * fd_nu G c j) * (fd_ta G c W s j : Int) := by
  unfold fd_tl fd_ta; split <;> rfl
theorem fd_tl_bd {n : Nat} {G : fd_FC} {c : Nat} {W : Nat → Int32} {s : Int} {j : Nat} (hT : fd_Tm n G c) (hs : s = 1 ∨ s = -1) (hj : j < fd_sz G c) : -248 ≤ fd_tl G c W s j ∧ fd_tl G c W s j ≤ 248 := by
  obtain ⟨_, _, h3, h4⟩ := hT.2.2.1 j hj
  have a := fd_sb hs h3 h4
  have b := fd_gr_32 (W (fd_sp G c j))
  have d := fd_lo_32 (W (fd_sp G c j))
  unfold fd_tl
  split
  · exact fd_mb a.1 a.2 (by omega) (by omega)
  · exact fd_mb a.1 a.2 (by omega) (by omega)
theorem fd_sm_pbd {f : Nat → Int} {m k : Nat} (hm : m ≤ 8) (hk : k ≤ m) (h : ∀ i, i < m → -248 ≤ f i ∧ f i ≤ 248) : -1984 ≤ fd_sm f k ∧ fd_sm f k ≤ 1984 := by
  have a := fd_sm_bd (f := f) (n := k) (B := 248) (fun i hi => h i (by omega))
  omega
theorem fd_ls_bd {n : Nat} {G : fd_FC} {c : Nat} {W : Nat → Int32} {s : Int} (hT : fd_Tm n G c) (hs : s = 1 ∨ s = -1) : -1984 ≤ fd_ls G c W s ∧ fd_ls G c W s ≤ 1984 :=
  fd_sm_pbd hT.1 (Nat.le_refl _) (fun _ hi => fd_tl_bd hT hs hi)
section
variable {f_objectiveSlot f_maxVariables f_maxConstraints f_maxDepth f_variables f_space f_failed f_terms f_cells f_constraints f_level f_mode f_found f_exhausted f_hasCurrent f_objective f_pending : Int32} {f_matched : Int64} {f_depth f_guided f_bounded : Int32} {a_dom a_watch a_order a_direction a_termA a_termV a_cellX a_kind a_relation a_constant a_first a_second a_size a_number a_scope a_savedDom a_savedConstraints a_decidedVariable a_decidedValue a_current a_work a_sums a_grown : Nat → Int32} {a_image : Nat → Int64} {a_mate a_parent a_queue a_reach a_frames a_left : Nat → Int32} {post : Int32 → Prop} {n : Nat}
theorem fd_ix {c j : Nat} : nI c * 16 + nI j = nI (16 * c + j) := by
  have e : nI c * 16 = nI (c * 16) := pk_mul c 16
  rw [e, nI_add, Nat.mul_comm]
theorem fd_xtl {c j : Nat} {s : Int} {sg : Int32} (hT : fd_Tm n (a_kind, a_relation, a_constant, a_first, a_second, a_size, a_number, a_scope) c) (hn : n ≤ 8) (hc : c < 13) (hj : j < fd_sz (a_kind, a_relation, a_constant, a_first, a_second, a_size, a_number, a_scope) c) (hs : s = 1 ∨ s = -1) (hsg : sg.toInt = s) (h : ∀ r : Int32, r.toInt = fd_tl (a_kind, a_relation, a_constant, a_first, a_second, a_size, a_number, a_scope) c a_work s j → post r) : wpX_termLeast post (f_objectiveSlot, f_maxVariables, f_maxConstraints, f_maxDepth, f_variables, f_space, f_failed, f_terms, f_cells, f_constraints, f_level, f_mode, f_found, f_exhausted, f_hasCurrent, f_objective, f_pending, f_matched, f_depth, f_guided, f_bounded, a_dom, a_watch, a_order, a_direction, a_termA, a_termV, a_cellX, a_kind, a_relation, a_constant, a_first, a_second, a_size, a_number, a_scope, a_savedDom, a_savedConstraints, a_decidedVariable, a_decidedValue, a_current, a_work, a_sums, a_grown, a_image, a_mate, a_parent, a_queue, a_reach, a_frames, a_left) (nI c) (nI j) sg := by
  obtain ⟨h8, hz, ht, _⟩ := hT
  obtain ⟨h1, h2, h3, h4⟩ := ht j hj
  have h2' : a_scope (16 * c + j) = nI (fd_sp (a_kind, a_relation, a_constant, a_first, a_second, a_size, a_number, a_scope) c j) := h2
  have e2 : (nI (16 * c + j)).toNatClampNeg = 16 * c + j := pk_cl _
  have e3 : (nI (fd_sp (a_kind, a_relation, a_constant, a_first, a_second, a_size, a_number, a_scope) c j)).toNatClampNeg = fd_sp (a_kind, a_relation, a_constant, a_first, a_second, a_size, a_number, a_scope) c j := pk_cl _
  have hnu : fd_nu (a_kind, a_relation, a_constant, a_first, a_second, a_size, a_number, a_scope) c j = (a_number (16 * c + j)).toInt := rfl
  have hb := fd_sb hs h3 h4
  refine nm_r fd_ix ⟨pk_in (16 * c + j) 208 (by omega), ?_⟩
  intro x5 ex5
  rw [e2] at ex5
  have hx5 : x5.toInt = s * fd_nu (a_kind, a_relation, a_constant, a_first, a_second, a_size, a_number, a_scope) c j := by
    rw [ex5, fd_mul (by rw [hsg, ← hnu]; omega) (by rw [hsg, ← hnu]; omega), hsg, ← hnu]
  refine ⟨pk_in (16 * c + j) 208 (by omega), ?_⟩
  rw [e2, h2', e3]
  refine ⟨fd_in8 (by omega), nm_e ?_⟩
  by_cases hneg : s * fd_nu (a_kind, a_relation, a_constant, a_first, a_second, a_size, a_number, a_scope) c j < 0
  · refine br_t (by rw [Int32.lt_iff_toInt_lt, hx5]; exact hneg) (fd_xgr (h _ ?_))
    have g := fd_gr_32 (a_work (fd_sp (a_kind, a_relation, a_constant, a_first, a_second, a_size, a_number, a_scope) c j))
    have e4 : (nI (fd_gr (a_work (fd_sp (a_kind, a_relation, a_constant, a_first, a_second, a_size, a_number, a_scope) c j)))).toInt = (fd_gr (a_work (fd_sp (a_kind, a_relation, a_constant, a_first, a_second, a_size, a_number, a_scope) c j)) : Int) := nI_toInt (by omega)
    have mb := fd_mb hb.1 hb.2 (g := (fd_gr (a_work (fd_sp (a_kind, a_relation, a_constant, a_first, a_second, a_size, a_number, a_scope) c j)) : Int)) (by omega) (by omega)
    rw [fd_mul (by rw [e4, hx5]; omega) (by rw [e4, hx5]; omega), e4, hx5]
    unfold fd_tl
    rw [if_pos hneg]
  · refine br_f (by rw [Int32.lt_iff_toInt_lt, hx5]; exact hneg) (fd_xlo (h _ ?_))
    have g := fd_lo_32 (a_work (fd_sp (a_kind, a_relation, a_constant, a_first, a_second, a_size, a_number, a_scope) c j))
    have e4 : (nI (fd_lo (a_work (fd_sp (a_kind, a_relation, a_constant, a_first, a_second, a_size, a_number, a_scope) c j)))).toInt = (fd_lo (a_work (fd_sp (a_kind, a_relation, a_constant, a_first, a_second, a_size, a_number, a_scope) c j)) : Int) := nI_toInt (by omega)
    have mb := fd_mb hb.1 hb.2 (g := (fd_lo (a_work (fd_sp (a_kind, a_relation, a_constant, a_first, a_second, a_size, a_number, a_scope) c j)) : Int)) (by omega) (by omega)
    rw [fd_mul (by rw [e4, hx5]; omega) (by rw [e4, hx5]; omega), e4, hx5]
    unfold fd_tl
    rw [if_neg hneg]
theorem fd_xls_l {c : Nat} {s : Int} {sg : Int32} (hT : fd_Tm n (a_kind, a_relation, a_constant, a_first, a_second, a_size, a_number, a_scope) c) (hn : n ≤ 8) (hc : c < 13) (hs : s = 1 ∨ s = -1) (hsg : sg.toInt = s) (h : ∀ r : Int32, r.toInt = fd_ls (a_kind, a_relation, a_constant, a_first, a_second, a_size, a_number, a_scope) c a_work s → post r) : ∀ k j, j + k = fd_sz (a_kind, a_relation, a_constant, a_first, a_second, a_size, a_number, a_scope) c → ∀ x : Int32, x.toInt = fd_sm (fd_tl (a_kind, a_relation, a_constant, a_first, a_second, a_size, a_number, a_scope) c a_work s) j → ∀ q, k < q → wX_leastSum_5 post (nI c) sg f_objectiveSlot f_maxVariables f_maxConstraints f_maxDepth f_variables f_space f_failed f_terms f_cells f_constraints f_level f_mode f_found f_exhausted f_hasCurrent f_objective f_pending f_matched f_depth f_guided f_bounded a_dom a_watch a_order a_direction a_termA a_termV a_cellX a_kind a_relation a_constant a_first a_second a_size a_number a_scope a_savedDom a_savedConstraints a_decidedVariable a_decidedValue a_current a_work a_sums a_grown a_image a_mate a_parent a_queue a_reach a_frames a_left q x (nI j) := by
  have hz : a_size c = nI (fd_sz (a_kind, a_relation, a_constant, a_first, a_second, a_size, a_number, a_scope) c) := hT.2.1
  have h8 := hT.1
  have e2 : (nI c).toNatClampNeg = c := pk_cl c
  intro k
  induction k with
  | zero =>
    intro j hj x hx q hq
    obtain ⟨q, rfl⟩ : ∃ q', q = q' + 1 := ⟨q - 1, by omega⟩
    refine ⟨pk_in c 13 hc, ?_⟩
    rw [e2, hz]
    refine pk_le (fd_sz (a_kind, a_relation, a_constant, a_first, a_second, a_size, a_number, a_scope) c) j (fun _ => h x ?_) (fun c => absurd c (by omega))
    have e : j = fd_sz (a_kind, a_relation, a_constant, a_first, a_second, a_size, a_number, a_scope) c := by omega
    rw [hx, e]; rfl
  | succ k ih =>
    intro j hj x hx q hq
    obtain ⟨q, rfl⟩ : ∃ q', q = q' + 1 := ⟨q - 1, by omega⟩
    refine ⟨pk_in c 13 hc, ?_⟩
    rw [e2, hz]
    refine pk_le (fd_sz (a_kind, a_relation, a_constant, a_first, a_second, a_size, a_number, a_scope) c) j (fun c => absurd c (by omega)) (fun _ => ?_)
    refine fd_xtl hT hn hc (by omega) hs hsg (fun r hr => ?_)
    intro y ey
    refine nm_r (nI_1 j) (ih (j + 1) (by omega) y ?_ q (by omega))
    have b1 := fd_sm_pbd (f := fd_tl (a_kind, a_relation, a_constant, a_first, a_second, a_size, a_number, a_scope) c a_work s) (m := fd_sz (a_kind, a_relation, a_constant, a_first, a_second, a_size, a_number, a_scope) c) (k := j) h8 (by omega) (fun _ hi => fd_tl_bd hT hs hi)
    have b2 := fd_tl_bd (W := a_work) hT hs (j := j) (by omega)
    rw [ey, fd_add (by rw [hx, hr]; omega) (by rw [hx, hr]; omega), hx, hr, fd_sm_s]
theorem fd_xls {c : Nat} {s : Int} {sg : Int32} (hT : fd_Tm n (a_kind, a_relation, a_constant, a_first, a_second, a_size, a_number, a_scope) c) (hn : n ≤ 8) (hc : c < 13) (hs : s = 1 ∨ s = -1) (hsg : sg.toInt = s) (h : ∀ r : Int32, r.toInt = fd_ls (a_kind, a_relation, a_constant, a_first, a_second, a_size, a_number, a_scope) c a_work s → post r) : wpX_leastSum post (f_objectiveSlot, f_maxVariables, f_maxConstraints, f_maxDepth, f_variables, f_space, f_failed, f_terms, f_cells, f_constraints, f_level, f_mode, f_found, f_exhausted, f_hasCurrent, f_objective, f_pending, f_matched, f_depth, f_guided, f_bounded, a_dom, a_watch, a_order, a_direction, a_termA, a_termV, a_cellX, a_kind, a_relation, a_constant, a_first, a_second, a_size, a_number, a_scope, a_savedDom, a_savedConstraints, a_decidedVariable, a_decidedValue, a_current, a_work, a_sums, a_grown, a_image, a_mate, a_parent, a_queue, a_reach, a_frames, a_left) (nI c) sg :=
  ⟨fd_sz (a_kind, a_relation, a_constant, a_first, a_second, a_size, a_number, a_scope) c + 1, fd_xls_l hT hn hc hs hsg h (fd_sz (a_kind, a_relation, a_constant, a_first, a_second, a_size, a_number, a_scope) c) 0 (by omega) 0 rfl _ (by omega)⟩
end
/-! the pure side -/
section
variable {n : Nat} {G : fd_FC} {c : Nat} {W : Nat → Int32} {s : Int}
theorem fd_sum_s (a : Nat → Nat) : fd_sm (fun j => (s * fd_nu G c j) * (a (fd_sp G c j) : Int)) (fd_sz G c) = s * fd_sum G c a := by
  unfold fd_sum
  generalize fd_sz G c = z
  induction z with
  | zero => simp [fd_sm]
  | succ z ih => rw [fd_sm_s, fd_sm_s, ih, Int.mul_add, Int.mul_assoc]
theorem fd_ls_le (hT : fd_Tm n G c) {a : Nat → Nat} (ha : fd_In n W a) : fd_ls G c W s ≤ s * fd_sum G c a := by
  rw [← fd_sum_s]
  exact fd_sm_mono (fun j hj => fd_tl_le (ha _ (hT.2.2.1 j hj).1))
/-- the assignment that takes the least in every term -/
theorem fd_ls_at (hT : fd_Tm n G c) (hW : fd_NE n W) : ∃ a, fd_In n W a ∧ (∀ j, j < fd_sz G c → a (fd_sp G c j) = fd_ta G c W s j) := by
  have key : ∀ m, m ≤ fd_sz G c → ∃ a, fd_In n W a ∧ (∀ j, j < m → a (fd_sp G c j) = fd_ta G c W s j) := by
    intro m
    induction m with
    | zero => intro _; exact ⟨_, fd_In_lo hW, fun j hj => by omega⟩
    | succ m ih =>
      intro hm
      obtain ⟨a, ha, h⟩ := ih (by omega)
      refine ⟨fd_up a (fd_sp G c m) (fd_ta G c W s m), fd_In_up ha (fd_ta_in (hW _ (hT.2.2.1 m (by omega)).1)), fun j hj => ?_⟩
      by_cases e : j = m
      · rw [e, fd_up_s]
      · rw [fd_up_n a (fun x => e (hT.2.2.2 j m (by omega) (by omega) x)), h j (by omega)]
  exact key _ (Nat.le_refl _)
theorem fd_ls_val {a : Nat → Nat} (h : ∀ j, j < fd_sz G c → a (fd_sp G c j) = fd_ta G c W s j) : s * fd_sum G c a = fd_ls G c W s := by
  rw [← fd_sum_s]
  exact fd_sm_congr (fun j hj => by show _ * _ = _; rw [h j hj, fd_tl_ta])
/-- with term j at d and the others least -/
theorem fd_ls_upd (hT : fd_Tm n G c) {a : Nat → Nat} (h : ∀ j, j < fd_sz G c → a (fd_sp G c j) = fd_ta G c W s j) {j d : Nat} (hj : j < fd_sz G c) : s * fd_sum G c (fd_up a (fd_sp G c j) d) = fd_ls G c W s - fd_tl G c W s j + (s * fd_nu G c j) * (d : Int) := by
  rw [← fd_sum_s]
  have e := fd_sm_upd (f := fun i => (s * fd_nu G c i) * (fd_up a (fd_sp G c j) d (fd_sp G c i) : Int)) (g := fd_tl G c W s) hj (fun i hi hne => by
    show _ * _ = _
    rw [fd_up_n a (fun x => hne (hT.2.2.2 i j hi hj x)), h i hi, fd_tl_ta])
  rw [e]
  show _ - _ + _ * _ = _
  rw [fd_up_s]
  rfl
/-- which values of term j the bound allows -/
theorem fd_up_PJ (hT : fd_Tm n G c) (hW : fd_NE n W) {lim : Int} {j d : Nat} (hj : j < fd_sz G c) (hd : bt (W (fd_sp G c j)) d = true) : fd_PJ n W (fun a => s * fd_sum G c a ≤ lim) (fd_sp G c j) d ↔ (s * fd_nu G c j) * (d : Int) ≤ fd_tl G c W s j + (lim - fd_ls G c W s) := by
  obtain ⟨a0, h0, h1⟩ := fd_ls_at (s := s) hT hW
  constructor
  · rintro ⟨a, ha, hP, e⟩
    have b : s * fd_sum G c a ≤ lim := hP
    rw [← fd_sum_s] at b
    have x := fd_sm_upd (f := fun i => if i = j then fd_tl G c W s j else (s * fd_nu G c i) * (a (fd_sp G c i) : Int)) (g := fun i => (s * fd_nu G c i) * (a (fd_sp G c i) : Int)) hj (fun i _ hne => by show (if i = j then _ else _) = _; rw [if_neg hne])
    have y : fd_ls G c W s ≤ fd_sm (fun i => if i = j then fd_tl G c W s j else (s * fd_nu G c i) * (a (fd_sp G c i) : Int)) (fd_sz G c) := fd_sm_mono (fun i hi => by
      show fd_tl G c W s i ≤ if i = j then _ else _
      by_cases q : i = j
      · rw [if_pos q, q]; exact Int.le_refl _
      · rw [if_neg q]; exact fd_tl_le (ha _ (hT.2.2.1 i hi).1))
    rw [if_pos rfl, e] at x
    omega
  · intro h
    refine ⟨fd_up a0 (fd_sp G c j) d, fd_In_up h0 hd, ?_, fd_up_s _ _ _⟩
    show s * fd_sum G c _ ≤ lim
    rw [fd_ls_upd hT h1 hj]
    omega
end
end
section
/-! ===== X: narrow, filterUpper ===== -/
section
variable {f_objectiveSlot f_maxVariables f_maxConstraints f_maxDepth f_variables f_space f_failed f_terms f_cells f_constraints f_level f_mode f_found f_exhausted f_hasCurrent f_objective f_pending : Int32} {f_matched : Int64} {f_depth f_guided f_bounded : Int32} {a_dom a_watch a_order a_direction a_termA a_termV a_cellX a_kind a_relation a_constant a_first a_second a_size a_number a_scope a_savedDom a_savedConstraints a_decidedVariable a_decidedValue a_current a_work a_sums a_grown : Nat → Int32} {a_image : Nat → Int64} {a_mate a_parent a_queue a_reach a_frames a_left : Nat → Int32} {post : Int32 → SX → Prop} {n : Nat}
theorem fd_xnarrow {v : Nat} {k : Int32} (hv : v < 8) (h : post (if (a_work v &&& k) = 0 then 0 else 1) (f_objectiveSlot, f_maxVariables, f_maxConstraints, f_maxDepth, f_variables, f_space, f_failed, f_terms, f_cells, f_constraints, f_level, f_mode, f_found, f_exhausted, f_hasCurrent, f_objective, if (a_work v &&& k) = a_work v then f_pending else f_pending ||| a_watch v, f_matched, f_depth, f_guided, f_bounded, a_dom, a_watch, a_order, a_direction, a_termA, a_termV, a_cellX, a_kind, a_relation, a_constant, a_first, a_second, a_size, a_number, a_scope, a_savedDom, a_savedConstraints, a_decidedVariable, a_decidedValue, a_current, upd a_work v (a_work v &&& k), a_sums, a_grown, a_image, a_mate, a_parent, a_queue, a_reach, a_frames, a_left)) : wpX_narrow post (f_objectiveSlot, f_maxVariables, f_maxConstraints, f_maxDepth, f_variables, f_space, f_failed, f_terms, f_cells, f_constraints, f_level, f_mode, f_found, f_exhausted, f_hasCurrent, f_objective, f_pending, f_matched, f_depth, f_guided, f_bounded, a_dom, a_watch, a_order, a_direction, a_termA, a_termV, a_cellX, a_kind, a_relation, a_constant, a_first, a_second, a_size, a_number, a_scope, a_savedDom, a_savedConstraints, a_decidedVariable, a_decidedValue, a_current, a_work, a_sums, a_grown, a_image, a_mate, a_parent, a_queue, a_reach, a_frames, a_left) (nI v) k := by
  have e : (nI v).toNatClampNeg = v := pk_cl v
  refine ⟨pk_in v 8 hv, ?_⟩
  rw [e]
  refine nm_e ⟨pk_in v 8 hv, ?_⟩
  by_cases c : (a_work v &&& k) = a_work v
  · rw [if_pos c, c, fd_upd_self] at h
    refine br_t c ?_
    rw [c]
    by_cases z : a_work v = 0
    · rw [if_pos z] at h; exact br_t z h
    · rw [if_neg z] at h; exact br_f z h
  · rw [if_neg c] at h
    refine br_f c ⟨pk_in v 8 hv, nm_e ⟨pk_in v 8 hv, nm_e ?_⟩⟩
    by_cases z : (a_work v &&& k) = 0
    · rw [if_pos z] at h; exact br_t z h
    · rw [if_neg z] at h; exact br_f z h
theorem fd_xnar {v : Nat} {k : Int32} (hv : v < n) (hn : n ≤ 8) (h : ∀ r p', fd_Nar n a_watch a_work f_pending (upd a_work v (a_work v &&& k)) p' → ((r = 0 ∧ (a_work v &&& k) = 0) ∨ (r = 1 ∧ (a_work v &&& k) ≠ 0)) → post r (f_objectiveSlot, f_maxVariables, f_maxConstraints, f_maxDepth, f_variables, f_space, f_failed, f_terms, f_cells, f_constraints, f_level, f_mode, f_found, f_exhausted, f_hasCurrent, f_objective, p', f_matched, f_depth, f_guided, f_bounded, a_dom, a_watch, a_order, a_direction, a_termA, a_termV, a_cellX, a_kind, a_relation, a_constant, a_first, a_second, a_size, a_number, a_scope, a_savedDom, a_savedConstraints, a_decidedVariable, a_decidedValue, a_current, upd a_work v (a_work v &&& k), a_sums, a_grown, a_image, a_mate, a_parent, a_queue, a_reach, a_frames, a_left)) : wpX_narrow post (f_objectiveSlot, f_maxVariables, f_maxConstraints, f_maxDepth, f_variables, f_space, f_failed, f_terms, f_cells, f_constraints, f_level, f_mode, f_found, f_exhausted, f_hasCurrent, f_objective, f_pending, f_matched, f_depth, f_guided, f_bounded, a_dom, a_watch, a_order, a_direction, a_termA, a_termV, a_cellX, a_kind, a_relation, a_constant, a_first, a_second, a_size, a_number, a_scope, a_savedDom, a_savedConstraints, a_decidedVariable, a_decidedValue, a_current, a_work, a_sums, a_grown, a_image, a_mate, a_parent, a_queue, a_reach, a_frames, a_left) (nI v) k := by
  refine fd_xnarrow (by omega) (h _ _ (fd_Nar_1 hv) ?_)
  by_cases z : (a_work v &&& k) = 0
  · rw [if_pos z]; exact Or.inl ⟨rfl, z⟩
  · rw [if_neg z]; exact Or.inr ⟨rfl, z⟩
theorem fd_xup82 {J : Int32 → Int32 → Int32 → Int32 → Int32 → Int32 → Int32 → Int32 → Int32 → Int32 → Int32 → Int32 → Int32 → Int32 → Int32 → Int32 → Int32 → Int32 → Int64 → Int32 → Int32 → Int32 → (Nat → Int32) → (Nat → Int32) → (Nat → Int32) → (Nat → Int32) → (Nat → Int32) → (Nat → Int32) → (Nat → Int32) → (Nat → Int32) → (Nat → Int32) → (Nat → Int32) → (Nat → Int32) → (Nat → Int32) → (Nat → Int32) → (Nat → Int32) → (Nat → Int32) → (Nat → Int32) → (Nat → Int32) → (Nat → Int32) → (Nat → Int32) → (Nat → Int32) → (Nat → Int32) → (Nat → Int32) → (Nat → Int32) → (Nat → Int64) → (Nat → Int32) → (Nat → Int32) → (Nat → Int32) → (Nat → Int32) → (Nat → Int32) → (Nat → Int32) → Prop} {x1 x2 x4 x5 x8 x9 : Int32} {j v : Nat} {A M : Int} (hv : v < n) (hn : n ≤ 8) (hA : x8.toInt = A) (hA1 : -8 ≤ A) (hA2 : A ≤ 8) (hM : x9.toInt = M)
    (h0 : ∀ (k : Int32) p', (∀ d, bt k d = true ↔ (d < 32 ∧ A * (d : Int) ≤ M)) → fd_Nar n a_watch a_work f_pending (upd a_work v (a_work v &&& k)) p' → (a_work v &&& k) = 0 → post 0 (f_objectiveSlot, f_maxVariables, f_maxConstraints, f_maxDepth, f_variables, f_space, f_failed, f_terms, f_cells, f_constraints, f_level, f_mode, f_found, f_exhausted, f_hasCurrent, f_objective, p', f_matched, f_depth, f_guided, f_bounded, a_dom, a_watch, a_order, a_direction, a_termA, a_termV, a_cellX, a_kind, a_relation, a_constant, a_first, a_second, a_size, a_number, a_scope, a_savedDom, a_savedConstraints, a_decidedVariable, a_decidedValue, a_current, upd a_work v (a_work v &&& k), a_sums, a_grown, a_image, a_mate, a_parent, a_queue, a_reach, a_frames, a_left))
    (h1 : ∀ (k : Int32) p', (∀ d, bt k d = true ↔ (d < 32 ∧ A * (d : Int) ≤ M)) → fd_Nar n a_watch a_work f_pending (upd a_work v (a_work v &&& k)) p' → (a_work v &&& k) ≠ 0 → J (nI (j + 1)) f_objectiveSlot f_maxVariables f_maxConstraints f_maxDepth f_variables f_space f_failed f_terms f_cells f_constraints f_level f_mode f_found f_exhausted f_hasCurrent f_objective p' f_matched f_depth f_guided f_bounded a_dom a_watch a_order a_direction a_termA a_termV a_cellX a_kind a_relation a_constant a_first a_second a_size a_number a_scope a_savedDom a_savedConstraints a_decidedVariable a_decidedValue a_current (upd a_work v (a_work v &&& k)) a_sums a_grown a_image a_mate a_parent a_queue a_reach a_frames a_left) :
    ∀ k i, i + k = 32 → ∀ x : Int32, (∀ d, bt x d = true ↔ (d < i ∧ A * (d : Int) ≤ M)) → ∀ q, k < q → wX_filterUpper_82 post J x1 x2 x4 x5 (nI j) (nI v) x8 x9 f_objectiveSlot f_maxVariables f_maxConstraints f_maxDepth f_variables f_space f_failed f_terms f_cells f_constraints f_level f_mode f_found f_exhausted f_hasCurrent f_objective f_pending f_matched f_depth f_guided f_bounded a_dom a_watch a_order a_direction a_termA a_termV a_cellX a_kind a_relation a_constant a_first a_second a_size a_number a_scope a_savedDom a_savedConstraints a_decidedVariable a_decidedValue a_current a_work a_sums a_grown a_image a_mate a_parent a_queue a_reach a_frames a_left q x (nI i) := by
  intro k
  induction k with
  | zero =>
    intro i hi x hx q hq
    obtain ⟨q, rfl⟩ : ∃ q', q = q' + 1 := ⟨q - 1, by omega⟩
    have e : i = 32 := by omega
    subst e
    refine pk_le 32 32 (fun _ => ?_) (fun c => absurd c (by omega))
    refine fd_xnar hv hn (fun r p' hN hr => ?_)
    rcases hr with ⟨rfl, z⟩ | ⟨rfl, z⟩
    · exact br_t rfl (h0 x p' hx hN z)
    · exact br_f (by decide) (nm_r (nI_1 j) (h1 x p' hx hN z))
  | succ k ih =>
    intro i hi x hx q hq
    obtain ⟨q, rfl⟩ : ∃ q', q = q' + 1 := ⟨q - 1, by omega⟩
    refine pk_le 32 i (fun c => absurd c (by omega)) (fun _ => ?_)
    have e4 : (nI i).toInt = (i : Int) := nI_toInt (by omega)
    have mb := fd_mb hA1 hA2 (g := (i : Int)) (by omega) (by omega)
    have e5 : (x8 * nI i).toInt = A * (i : Int) := by
      rw [fd_mul (by rw [e4, hA]; omega) (by rw [e4, hA]; omega), e4, hA]
    by_cases c : M < A * (i : Int)
    · refine br_t (by rw [Int32.lt_iff_toInt_lt, hM, e5]; exact c) (nm_r (nI_1 i) (ih (i + 1) (by omega) x (fun d => ?_) q (by omega)))
      rw [hx d]
      constructor
      · rintro ⟨a, b⟩; exact ⟨by omega, b⟩
      · rintro ⟨a, b⟩
        by_cases e : d = i
        · subst e; omega
        · exact ⟨by omega, b⟩
    · refine br_f (by rw [Int32.lt_iff_toInt_lt, hM, e5]; exact c) (nm_e (nm_r (nI_1 i) (ih (i + 1) (by omega) _ (fun d => ?_) q (by omega))))
      rw [fd_or1 x (by omega), Bool.or_eq_true, hx d, decide_eq_true_iff]
      constructor
      · rintro (⟨a, b⟩ | e)
        · exact ⟨by omega, b⟩
        · subst e; exact ⟨by omega, by omega⟩
      · rintro ⟨a, b⟩
        by_cases e : d = i
        · exact Or.inr e
        · exact Or.inl ⟨by omega, b⟩
theorem fd_xup26 {c : Nat} {s lim : Int} {sg x5 : Int32} (hT : fd_Tm n (a_kind, a_relation, a_constant, a_first, a_second, a_size, a_number, a_scope) c) (hn : n ≤ 8) (hc : c < 13) (hs : s = 1 ∨ s = -1) (hsg : sg.toInt = s) (hlim : -5000 ≤ lim ∧ lim ≤ 5000) (hW : fd_NE n a_work) (hx5 : x5.toInt = lim - fd_ls (a_kind, a_relation, a_constant, a_first, a_second, a_size, a_number, a_scope) c a_work s) (hsl : 0 ≤ lim - fd_ls (a_kind, a_relation, a_constant, a_first, a_second, a_size, a_number, a_scope) c a_work s)
    (h : ∀ r W' p', fd_Nar n a_watch a_work f_pending W' p' → fd_Rev n a_work (fun a => s * fd_sum (a_kind, a_relation, a_constant, a_first, a_second, a_size, a_number, a_scope) c a ≤ lim) r W' → post r (f_objectiveSlot, f_maxVariables, f_maxConstraints, f_maxDepth, f_variables, f_space, f_failed, f_terms, f_cells, f_constraints, f_level, f_mode, f_found, f_exhausted, f_hasCurrent, f_objective, p', f_matched, f_depth, f_guided, f_bounded, a_dom, a_watch, a_order, a_direction, a_termA, a_termV, a_cellX, a_kind, a_relation, a_constant, a_first, a_second, a_size, a_number, a_scope, a_savedDom, a_savedConstraints, a_decidedVariable, a_decidedValue, a_current, W', a_sums, a_grown, a_image, a_mate, a_parent, a_queue, a_reach, a_frames, a_left)) :
    ∀ k j, j + k = fd_sz (a_kind, a_relation, a_constant, a_first, a_second, a_size, a_number, a_scope) c → ∀ W p, fd_Nar n a_watch a_work f_pending W p → fd_Mid n a_work (fun a => s * fd_sum (a_kind, a_relation, a_constant, a_first, a_second, a_size, a_number, a_scope) c a ≤ lim) W → (∀ i, i < j → ∀ d, bt (W (fd_sp (a_kind, a_relation, a_constant, a_first, a_second, a_size, a_number, a_scope) c i)) d = true → fd_PJ n a_work (fun a => s * fd_sum (a_kind, a_relation, a_constant, a_first, a_second, a_size, a_number, a_scope) c a ≤ lim) (fd_sp (a_kind, a_relation, a_constant, a_first, a_second, a_size, a_number, a_scope) c i) d) → (∀ i, j ≤ i → i < fd_sz (a_kind, a_relation, a_constant, a_first, a_second, a_size, a_number, a_scope) c → W (fd_sp (a_kind, a_relation, a_constant, a_first, a_second, a_size, a_number, a_scope) c i) = a_work (fd_sp (a_kind, a_relation, a_constant, a_first, a_second, a_size, a_number, a_scope) c i)) → ∀ q, k < q → wX_filterUpper_26 post (nI c) sg (nI (16 * c)) x5 q (nI j) f_objectiveSlot f_maxVariables f_maxConstraints f_maxDepth f_variables f_space f_failed f_terms f_cells f_constraints f_level f_mode f_found f_exhausted f_hasCurrent f_objective p f_matched f_depth f_guided f_bounded a_dom a_watch a_order a_direction a_termA a_termV a_cellX a_kind a_relation a_constant a_first a_second a_size a_number a_scope a_savedDom a_savedConstraints a_decidedVariable a_decidedValue a_current W a_sums a_grown a_image a_mate a_parent a_queue a_reach a_frames a_left := by
  have hz : a_size c = nI (fd_sz (a_kind, a_relation, a_constant, a_first, a_second, a_size, a_number, a_scope) c) := hT.2.1
  have h8 := hT.1
  have e2 : (nI c).toNatClampNeg = c := pk_cl c
  intro k
  induction k with
  | zero =>
    intro j hj W p hN hM hP hE q hq
    obtain ⟨q, rfl⟩ : ∃ q', q = q' + 1 := ⟨q - 1, by omega⟩
    refine ⟨pk_in c 13 hc, ?_⟩
    rw [e2, hz]
    refine pk_le (fd_sz (a_kind, a_relation, a_constant, a_first, a_second, a_size, a_number, a_scope) c) j (fun _ => h 1 W p hN ?_) (fun c => absurd c (by omega))
    obtain ⟨a0, h0, h1⟩ := fd_ls_at (s := s) hT hW
    refine fd_fin (S := fun v => ∃ j, j < fd_sz (a_kind, a_relation, a_constant, a_first, a_second, a_size, a_number, a_scope) c ∧ fd_sp (a_kind, a_relation, a_constant, a_first, a_second, a_size, a_number, a_scope) c j = v) (fun a b hab ha => ?_) hM (fun v hv hS d hd => ?_) a0 h0 ?_
    · show s * fd_sum (a_kind, a_relation, a_constant, a_first, a_second, a_size, a_number, a_scope) c b ≤ lim
      rw [← fd_sum_dep (fun j hj => hab _ ⟨j, hj, rfl⟩)]; exact ha
    · obtain ⟨i, hi, e⟩ := hS
      rw [← e] at hd ⊢
      exact hP i (by omega) d hd
    · show s * fd_sum (a_kind, a_relation, a_constant, a_first, a_second, a_size, a_number, a_scope) c a0 ≤ lim
      rw [fd_ls_val h1]; omega
  | succ k ih =>
    intro j hj W p hN hM hP hE q hq
    obtain ⟨q, rfl⟩ : ∃ q', q = q' + 1 := ⟨q - 1, by omega⟩
    refine ⟨pk_in c 13 hc, ?_⟩
    rw [e2, hz]
    refine pk_le (fd_sz (a_kind, a_relation, a_constant, a_first, a_second, a_size, a_number, a_scope) c) j (fun c => absurd c (by omega)) (fun _ => ?_)
    have hjz : j < fd_sz (a_kind, a_relation, a_constant, a_first, a_second, a_size, a_number, a_scope) c := by omega
    obtain ⟨t1, t2, t3, t4⟩ := hT.2.2.1 j hjz
    have t2' : a_scope (16 * c + j) = nI (fd_sp (a_kind, a_relation, a_constant, a_first, a_second, a_size, a_number, a_scope) c j) := t2
    have e3 : (nI (16 * c + j)).toNatClampNeg = 16 * c + j := pk_cl _
    have hb := fd_sb hs t3 t4
    have hnu : fd_nu (a_kind, a_relation, a_constant, a_first, a_second, a_size, a_number, a_scope) c j = (a_number (16 * c + j)).toInt := rfl
    rw [nI_add, e3]
    refine ⟨pk_in (16 * c + j) 208 (by omega), nm_r t2' ⟨pk_in (16 * c + j) 208 (by omega), ?_⟩⟩
    intro x8 ex8
    have hx8 : x8.toInt = s * fd_nu (a_kind, a_relation, a_constant, a_first, a_second, a_size, a_number, a_scope) c j := by
      rw [ex8, fd_mul (by rw [hsg, ← hnu]; omega) (by rw [hsg, ← hnu]; omega), hsg, ← hnu]
    refine fd_xtl (a_work := W) hT hn hc hjz hs hsg (fun r hr => ?_)
    intro x9 ex9
    have htl : fd_tl (a_kind, a_relation, a_constant, a_first, a_second, a_size, a_number, a_scope) c W s j = fd_tl (a_kind, a_relation, a_constant, a_first, a_second, a_size, a_number, a_scope) c a_work s j := by
      unfold fd_tl; rw [hE j (Nat.le_refl _) hjz]
    have bl := fd_ls_bd (W := a_work) hT hs
    have bt' := fd_tl_bd (W := a_work) hT hs hjz
    rw [htl] at hr
    have hx9 : x9.toInt = fd_tl (a_kind, a_relation, a_constant, a_first, a_second, a_size, a_number, a_scope) c a_work s j + (lim - fd_ls (a_kind, a_relation, a_constant, a_first, a_second, a_size, a_number, a_scope) c a_work s) := by
      rw [ex9, fd_add (by rw [hr, hx5]; omega) (by rw [hr, hx5]; omega), hr, hx5]
    have key : ∀ (k : Int32), (∀ d, bt k d = true ↔ (d < 32 ∧ (s * fd_nu (a_kind, a_relation, a_constant, a_first, a_second, a_size, a_number, a_scope) c j) * (d : Int) ≤ fd_tl (a_kind, a_relation, a_constant, a_first, a_second, a_size, a_number, a_scope) c a_work s j + (lim - fd_ls (a_kind, a_relation, a_constant, a_first, a_second, a_size, a_number, a_scope) c a_work s))) → ∀ d, bt (W (fd_sp (a_kind, a_relation, a_constant, a_first, a_second, a_size, a_number, a_scope) c j)) d = true → (bt k d = true ↔ fd_PJ n a_work (fun a => s * fd_sum (a_kind, a_relation, a_constant, a_first, a_second, a_size, a_number, a_scope) c a ≤ lim) (fd_sp (a_kind, a_relation, a_constant, a_first, a_second, a_size, a_number, a_scope) c j) d) := by
      intro k hk d hd
      rw [hE j (Nat.le_refl _) hjz] at hd
      rw [hk d, fd_up_PJ hT hW hjz hd]
      exact ⟨fun x => x.2, fun x => ⟨fd_lt hd, x⟩⟩
    refine ⟨33, fd_xup82 (a_work := W) (f_pending := p) (n := n) t1 hn hx8 hb.1 hb.2 hx9 (fun k p' hk hN' z => ?_) (fun k p' hk hN' z => ?_) 32 0 rfl 0 (fun d => by rw [b_0]; constructor <;> intro h <;> first | exact absurd h (by decide) | exact absurd h.1 (by omega)) 33 (by omega)⟩
    · refine h 0 _ p' (fd_Nar_tr hN hN') (Or.inr ⟨rfl, fun a ha hPa => ?_⟩)
      have hw := hM.2 a ha hPa _ t1
      have := (key k hk _ hw).mpr ⟨a, ha, hPa, rfl⟩
      have b := fd_eq0.mp z (a (fd_sp (a_kind, a_relation, a_constant, a_first, a_second, a_size, a_number, a_scope) c j))
      rw [b_and, hw, this] at b
      exact absurd b (by decide)
    · refine ih (j + 1) (by omega) _ p' (fd_Nar_tr hN hN') (fd_Mid_1 t1 hM (fun d hd hp => (key k hk d hd).mpr hp)) (fun i hi d hd => ?_) (fun i hi hiz => ?_) q (by omega)
      · by_cases e : i = j
        · subst e
          rw [pk_us, b_and, Bool.and_eq_true] at hd
          exact (key k hk d hd.1).mp hd.2
        · rw [pk_un (fun x => e (hT.2.2.2 i j (by omega) hjz x))] at hd
          exact hP i (by omega) d hd
      · rw [pk_un (fun x => by have := hT.2.2.2 i j hiz hjz x; omega)]
        exact hE i (by omega) hiz
theorem fd_xupper {c : Nat} {s lim : Int} {sg L : Int32} (hT : fd_Tm n (a_kind, a_relation, a_constant, a_first, a_second, a_size, a_number, a_scope) c) (hn : n ≤ 8) (hc : c < 13) (hs : s = 1 ∨ s = -1) (hsg : sg.toInt = s) (hL : L.toInt = lim) (hlim : -5000 ≤ lim ∧ lim ≤ 5000) (hW : fd_NE n a_work)
    (h : ∀ r W' p', fd_Nar n a_watch a_work f_pending W' p' → fd_Rev n a_work (fun a => s * fd_sum (a_kind, a_relation, a_constant, a_first, a_second, a_size, a_number, a_scope) c a ≤ lim) r W' → post r (f_objectiveSlot, f_maxVariables, f_maxConstraints, f_maxDepth, f_variables, f_space, f_failed, f_terms, f_cells, f_constraints, f_level, f_mode, f_found, f_exhausted, f_hasCurrent, f_objective, p', f_matched, f_depth, f_guided, f_bounded, a_dom, a_watch, a_order, a_direction, a_termA, a_termV, a_cellX, a_kind, a_relation, a_constant, a_first, a_second, a_size, a_number, a_scope, a_savedDom, a_savedConstraints, a_decidedVariable, a_decidedValue, a_current, W', a_sums, a_grown, a_image, a_mate, a_parent, a_queue, a_reach, a_frames, a_left)) : wpX_filterUpper post (f_objectiveSlot, f_maxVariables, f_maxConstraints, f_maxDepth, f_variables, f_space, f_failed, f_terms, f_cells, f_constraints, f_level, f_mode, f_found, f_exhausted, f_hasCurrent, f_objective, f_pending, f_matched, f_depth, f_guided, f_bounded, a_dom, a_watch, a_order, a_direction, a_termA, a_termV, a_cellX, a_kind, a_relation, a_constant, a_first, a_second, a_size, a_number, a_scope, a_savedDom, a_savedConstraints, a_decidedVariable, a_decidedValue, a_current, a_work, a_sums, a_grown, a_image, a_mate, a_parent, a_queue, a_reach, a_frames, a_left) (nI c) sg L := by
  have e1 : nI c * 16 = nI (16 * c) := by
    have e : nI c * 16 = nI (c * 16) := pk_mul c 16
    rw [e, Nat.mul_comm]
  refine nm_r e1 (fd_xls hT hn hc hs hsg (fun r hr => ?_))
  intro x5 ex5
  have bl := fd_ls_bd (W := a_work) hT hs
  have hx5 : x5.toInt = lim - fd_ls (a_kind, a_relation, a_constant, a_first, a_second, a_size, a_number, a_scope) c a_work s := by
    rw [ex5, fd_sub (by rw [hL, hr]; omega) (by rw [hL, hr]; omega), hL, hr]
  by_cases hsl : 0 ≤ lim - fd_ls (a_kind, a_relation, a_constant, a_first, a_second, a_size, a_number, a_scope) c a_work s
  · refine br_t (by rw [Int32.le_iff_toInt_le, hx5]; exact hsl) ⟨fd_sz (a_kind, a_relation, a_constant, a_first, a_second, a_size, a_number, a_scope) c + 1, ?_⟩
    exact fd_xup26 hT hn hc hs hsg hlim hW hx5 hsl h (fd_sz (a_kind, a_relation, a_constant, a_first, a_second, a_size, a_number, a_scope) c) 0 (by omega) a_work f_pending fd_Nar_rf fd_Mid_rf (fun i hi => absurd hi (by omega)) (fun _ _ _ => rfl) _ (by omega)
  · refine br_f (by rw [Int32.le_iff_toInt_le, hx5]; exact hsl) (h 0 a_work f_pending fd_Nar_rf (Or.inr ⟨rfl, fun a ha hP => ?_⟩))
    have x := fd_ls_le (s := s) hT ha
    have y : s * fd_sum (a_kind, a_relation, a_constant, a_first, a_second, a_size, a_number, a_scope) c a ≤ lim := hP
    omega
end
end
section
/-! ===== X: hits, filterNotEqual ===== -/
theorem fd_one {m : Int32} (hm : m ≠ 0) (h : (m &&& (m - 1)) = 0) {d : Nat} (hd : bt m d = true) : d = fd_lo m := by
  obtain ⟨e, he⟩ := (fd_single hm).mp h
  rw [(he d).mp hd, (he (fd_lo m)).mp (fd_lo_in hm)]
theorem fd_two {m : Int32} (hm : m ≠ 0) (h : ¬ (m &&& (m - 1)) = 0) (e : Nat) : ∃ d, bt m d = true ∧ d ≠ e := by
  apply Classical.byContradiction
  intro c
  apply h
  obtain ⟨k, hk⟩ := fd_ne0.mp hm
  refine (fd_single hm).mpr ⟨e, fun i => ⟨fun hi => Classical.byContradiction (fun x => c ⟨i, hi, x⟩), fun x => ?_⟩⟩
  have : k = e := Classical.byContradiction (fun x => c ⟨k, hk, x⟩)
  rw [x, ← this]; exact hk
section
variable {n : Nat} {G : fd_FC} {c : Nat} {W : Nat → Int32}
/-- sum of the fixed terms but j0 -/
def fd_fx (G : fd_FC) (c : Nat) (W : Nat → Int32) (j0 : Nat) (i : Nat) : Int := if i = j0 then 0 else fd_nu G c i * (fd_lo (W (fd_sp G c i)) : Int)
theorem fd_fx_bd (hT : fd_Tm n G c) {j0 i : Nat} (hi : i < fd_sz G c) : -248 ≤ fd_fx G c W j0 i ∧ fd_fx G c W j0 i ≤ 248 := by
  unfold fd_fx
  split
  · omega
  · obtain ⟨_, _, a, b⟩ := hT.2.2.1 i hi
    have := fd_lo_32 (W (fd_sp G c i))
    exact fd_mb a b (by omega) (by omega)
/-- all fixed but j0: the sum by the value at j0 -/
theorem fd_fx_sum (hT : fd_Tm n G c) (hW : fd_NE n W) {j0 : Nat} (h0 : j0 < fd_sz G c) (hs : ∀ i, i < fd_sz G c → i ≠ j0 → (W (fd_sp G c i) &&& (W (fd_sp G c i) - 1)) = 0) {a : Nat → Nat} (ha : fd_In n W a) : fd_sum G c a = fd_sm (fd_fx G c W j0) (fd_sz G c) + fd_nu G c j0 * (a (fd_sp G c j0) : Int) := by
  have e := fd_sm_upd (f := fun j => fd_nu G c j * (a (fd_sp G c j) : Int)) (g := fd_fx G c W j0) h0 (fun i hi hne => by
    have hl := (hT.2.2.1 i hi).1
    show _ = fd_fx G c W j0 i
    unfold fd_fx
    rw [if_neg hne, fd_one (hW _ hl) (hs i hi hne) (ha _ hl)])
  unfold fd_sum
  rw [e]
  have : fd_fx G c W j0 j0 = 0 := by unfold fd_fx; rw [if_pos rfl]
  rw [this]; omega
theorem fd_fx_all (hT : fd_Tm n G c) (hW : fd_NE n W) {j0 : Nat} (h0 : fd_sz G c ≤ j0) (hs : ∀ i, i < fd_sz G c → (W (fd_sp G c i) &&& (W (fd_sp G c i) - 1)) = 0) {a : Nat → Nat} (ha : fd_In n W a) : fd_sum G c a = fd_sm (fd_fx G c W j0) (fd_sz G c) :=
  fd_sm_congr (fun i hi => by
    have hl := (hT.2.2.1 i hi).1
    show _ = fd_fx G c W j0 i
    unfold fd_fx
    rw [if_neg (by omega), fd_one (hW _ hl) (hs i hi) (ha _ hl)])
/-- changing the value of term j changes the sum -/
theorem fd_sum_chg (hT : fd_Tm n G c) (hz : ∀ j, j < fd_sz G c → fd_nu G c j ≠ 0) {j d : Nat} (hj : j < fd_sz G c) {a : Nat → Nat} (hne : d ≠ a (fd_sp G c j)) : fd_sum G c (fd_up a (fd_sp G c j) d) ≠ fd_sum G c a := by
  have e := fd_sm_upd (f := fun i => fd_nu G c i * (fd_up a (fd_sp G c j) d (fd_sp G c i) : Int)) (g := fun i => fd_nu G c i * (a (fd_sp G c i) : Int)) hj (fun i hi q => by
    show _ * _ = _ * _
    rw [fd_up_n a (fun x => q (hT.2.2.2 i j hi hj x))])
  unfold fd_sum
  rw [e, fd_up_s]
  intro x
  have y : fd_nu G c j * ((d : Int) - (a (fd_sp G c j) : Int)) = 0 := by rw [Int.mul_sub]; omega
  rcases Int.mul_eq_zero.mp y with q | q
  · exact hz j hj q
  · omega
/-- two terms not fixed: every value has a partner off the constant -/
theorem fd_ne_all (hT : fd_Tm n G c) (hz : ∀ j, j < fd_sz G c → fd_nu G c j ≠ 0) (hW : fd_NE n W) {k : Int} {j0 j1 : Nat} (h0 : j0 < fd_sz G c) (h1 : j1 < fd_sz G c) (h01 : j0 ≠ j1) (s0 : ¬ (W (fd_sp G c j0) &&& (W (fd_sp G c j0) - 1)) = 0) (s1 : ¬ (W (fd_sp G c j1) &&& (W (fd_sp G c j1) - 1)) = 0) {v d : Nat} (hd : bt (W v) d = true) : fd_PJ n W (fun a => fd_sum G c a ≠ k) v d := by
  have ha := fd_In_up (fd_In_lo hW) hd
  by_cases e : fd_sum G c (fd_up (fun v => fd_lo (W v)) v d) = k
  · have key : ∀ j, j < fd_sz G c → fd_sp G c j ≠ v → (¬ (W (fd_sp G c j) &&& (W (fd_sp G c j) - 1)) = 0) → fd_PJ n W (fun a => fd_sum G c a ≠ k) v d := by
      intro j hj hv hs
      obtain ⟨x, hx, hne⟩ := fd_two (hW _ (hT.2.2.1 j hj).1) hs (fd_up (fun v => fd_lo (W v)) v d (fd_sp G c j))
      refine ⟨_, fd_In_up ha hx, ?_, ?_⟩
      · show fd_sum G c _ ≠ k
        rw [← e]; exact fd_sum_chg hT hz hj hne
      · rw [fd_up_n _ (Ne.symm hv), fd_up_s]
    by_cases q : fd_sp G c j0 = v
    · exact key j1 h1 (fun x => h01 (hT.2.2.2 j0 j1 h0 h1 (by rw [q, x]))) s1
    · exact key j0 h0 q s0
  · exact ⟨_, ha, e, fd_up_s _ _ _⟩
end
theorem fd_fin1 {n : Nat} {W : Nat → Int32} {P : (Nat → Nat) → Prop} (hW : fd_NE n W) (h : ∀ v, v < n → ∀ d, bt (W v) d = true → fd_PJ n W P v d) : fd_Rev n W P 1 W :=
  Or.inl ⟨rfl, fun v hv d => ⟨h v hv d, fun ⟨a, x, _, z⟩ => by rw [← z]; exact x v hv⟩, hW⟩
section
variable {f_objectiveSlot f_maxVariables f_maxConstraints f_maxDepth f_variables f_space f_failed f_terms f_cells f_constraints f_level f_mode f_found f_exhausted f_hasCurrent f_objective f_pending : Int32} {f_matched : Int64} {f_depth f_guided f_bounded : Int32} {a_dom a_watch a_order a_direction a_termA a_termV a_cellX a_kind a_relation a_constant a_first a_second a_size a_number a_scope a_savedDom a_savedConstraints a_decidedVariable a_decidedValue a_current a_work a_sums a_grown : Nat → Int32} {a_image : Nat → Int64} {a_mate a_parent a_queue a_reach a_frames a_left : Nat → Int32} {n : Nat}
theorem fd_xhits_l {post : Int32 → Prop} {x1 m x3 : Int32} (h1 : ∀ d, bt m d = true → x1 * nI d = x3 → post 1) (h0 : (∀ d, bt m d = true → x1 * nI d ≠ x3) → post 0) : ∀ k i, i + k = 32 → (∀ d, d < i → bt m d = true → x1 * nI d ≠ x3) → ∀ q, k < q → wX_hits_3 post x1 m x3 f_objectiveSlot f_maxVariables f_maxConstraints f_maxDepth f_variables f_space f_failed f_terms f_cells f_constraints f_level f_mode f_found f_exhausted f_hasCurrent f_objective f_pending f_matched f_depth f_guided f_bounded a_dom a_watch a_order a_direction a_termA a_termV a_cellX a_kind a_relation a_constant a_first a_second a_size a_number a_scope a_savedDom a_savedConstraints a_decidedVariable a_decidedValue a_current a_work a_sums a_grown a_image a_mate a_parent a_queue a_reach a_frames a_left q (nI i) := by
  intro k
  induction k with
  | zero =>
    intro i hi hs q hq
    obtain ⟨q, rfl⟩ : ∃ q', q = q' + 1 := ⟨q - 1, by omega⟩
    exact pk_le 32 i (fun _ => h0 (fun d hd => hs d (by have := fd_lt hd; omega) hd)) (fun c => absurd c (by omega))
  | succ k ih =>
    intro i hi hs q hq
    obtain ⟨q, rfl⟩ : ∃ q', q = q' + 1 := ⟨q - 1, by omega⟩
    refine pk_le 32 i (fun c => absurd c (by omega)) (fun _ => ?_)
    by_cases hb : bt m i = true
    · refine br_f ((fd_nbit m (by omega)).mpr hb) ?_
      by_cases e : x1 * nI i = x3
      · exact br_t e (h1 i hb e)
      · refine br_f e (nm_r (nI_1 i) (ih (i + 1) (by omega) (fun d hd hdb => ?_) q (by omega)))
        by_cases q : d = i
        · rw [q]; exact e
        · exact hs d (by omega) hdb
    · refine br_t ((fd_bit m (by omega)).mpr (by simpa using hb)) (nm_r (nI_1 i) (ih (i + 1) (by omega) (fun d hd hdb => ?_) q (by omega)))
      by_cases q : d = i
      · rw [q] at hdb; exact absurd hdb hb
      · exact hs d (by omega) hdb
theorem fd_xhits {post : Int32 → Prop} {x1 m x3 : Int32} (h1 : ∀ d, bt m d = true → x1 * nI d = x3 → post 1) (h0 : (∀ d, bt m d = true → x1 * nI d ≠ x3) → post 0) : wpX_hits post (f_objectiveSlot, f_maxVariables, f_maxConstraints, f_maxDepth, f_variables, f_space, f_failed, f_terms, f_cells, f_constraints, f_level, f_mode, f_found, f_exhausted, f_hasCurrent, f_objective, f_pending, f_matched, f_depth, f_guided, f_bounded, a_dom, a_watch, a_order, a_direction, a_termA, a_termV, a_cellX, a_kind, a_relation, a_constant, a_first, a_second, a_size, a_number, a_scope, a_savedDom, a_savedConstraints, a_decidedVariable, a_decidedValue, a_current, a_work, a_sums, a_grown, a_image, a_mate, a_parent, a_queue, a_reach, a_frames, a_left) x1 m x3 :=
  ⟨33, fd_xhits_l h1 h0 32 0 rfl (fun d hd => absurd hd (by omega)) 33 (by omega)⟩
variable {post : Int32 → SX → Prop}
theorem fd_xne124 {x6 x5 : Int32} {c j : Nat} {A M : Int} (hc : 16 * c + j < 208) (hsp : a_scope (16 * c + j) = nI (fd_sp (a_kind, a_relation, a_constant, a_first, a_second, a_size, a_number, a_scope) c j)) (hv : fd_sp (a_kind, a_relation, a_constant, a_first, a_second, a_size, a_number, a_scope) c j < n) (hn : n ≤ 8) (hA : x6.toInt = A) (hA1 : -8 ≤ A) (hA2 : A ≤ 8) (hM : x5.toInt = M)
    (h : ∀ r (k : Int32) p', (∀ d, bt k d = true ↔ (d < 32 ∧ A * (d : Int) ≠ M)) → fd_Nar n a_watch a_work f_pending (upd a_work (fd_sp (a_kind, a_relation, a_constant, a_first, a_second, a_size, a_number, a_scope) c j) (a_work (fd_sp (a_kind, a_relation, a_constant, a_first, a_second, a_size, a_number, a_scope) c j) &&& k)) p' → ((r = 0 ∧ (a_work (fd_sp (a_kind, a_relation, a_constant, a_first, a_second, a_size, a_number, a_scope) c j) &&& k) = 0) ∨ (r = 1 ∧ (a_work (fd_sp (a_kind, a_relation, a_constant, a_first, a_second, a_size, a_number, a_scope) c j) &&& k) ≠ 0)) → post r (f_objectiveSlot, f_maxVariables, f_maxConstraints, f_maxDepth, f_variables, f_space, f_failed, f_terms, f_cells, f_constraints, f_level, f_mode, f_found, f_exhausted, f_hasCurrent, f_objective, p', f_matched, f_depth, f_guided, f_bounded, a_dom, a_watch, a_order, a_direction, a_termA, a_termV, a_cellX, a_kind, a_relation, a_constant, a_first, a_second, a_size, a_number, a_scope, a_savedDom, a_savedConstraints, a_decidedVariable, a_decidedValue, a_current, upd a_work (fd_sp (a_kind, a_relation, a_constant, a_first, a_second, a_size, a_number, a_scope) c j) (a_work (fd_sp (a_kind, a_relation, a_constant, a_first, a_second, a_size, a_number, a_scope) c j) &&& k), a_sums, a_grown, a_image, a_mate, a_parent, a_queue, a_reach, a_frames, a_left)) :
    ∀ k i, i + k = 32 → ∀ x : Int32, (∀ d, bt x d = true ↔ (d < i ∧ A * (d : Int) ≠ M)) → ∀ q, k < q → wX_filterNotEqual_124 post (nI (16 * c)) (nI j) x5 x6 f_objectiveSlot f_maxVariables f_maxConstraints f_maxDepth f_variables f_space f_failed f_terms f_cells f_constraints f_level f_mode f_found f_exhausted f_hasCurrent f_objective f_pending f_matched f_depth f_guided f_bounded a_dom a_watch a_order a_direction a_termA a_termV a_cellX a_kind a_relation a_constant a_first a_second a_size a_number a_scope a_savedDom a_savedConstraints a_decidedVariable a_decidedValue a_current a_work a_sums a_grown a_image a_mate a_parent a_queue a_reach a_frames a_left q x (nI i) := by
  have e3 : (nI (16 * c + j)).toNatClampNeg = 16 * c + j := pk_cl _
  intro k
  induction k with
  | zero =>
    intro i hi x hx q hq
    obtain ⟨q, rfl⟩ : ∃ q', q = q' + 1 := ⟨q - 1, by omega⟩
    have e : i = 32 := by omega
    subst e
    refine pk_le 32 32 (fun _ => ?_) (fun c => absurd c (by omega))
    rw [nI_add, e3, hsp]
    refine ⟨pk_in (16 * c + j) 208 hc, fd_xnar hv hn (fun r p' hN hr => ?_)⟩
    have hh := h r x p' hx hN hr
    rcases hr with ⟨rfl, z⟩ | ⟨rfl, z⟩
    · exact ⟨narrow_b0, hh⟩
    · exact ⟨narrow_b1, hh⟩
  | succ k ih =>
    intro i hi x hx q hq
    obtain ⟨q, rfl⟩ : ∃ q', q = q' + 1 := ⟨q - 1, by omega⟩
    refine pk_le 32 i (fun c => absurd c (by omega)) (fun _ => ?_)
    have e4 : (nI i).toInt = (i : Int) := nI_toInt (by omega)
    have mb := fd_mb hA1 hA2 (g := (i : Int)) (by omega) (by omega)
    have e5 : (x6 * nI i).toInt = A * (i : Int) := by
      rw [fd_mul (by rw [e4, hA]; omega) (by rw [e4, hA]; omega), e4, hA]
    by_cases c : A * (i : Int) = M
    · refine br_t (by rw [← Int32.toInt_inj, hM, e5]; exact c) (nm_r (nI_1 i) (ih (i + 1) (by omega) x (fun d => ?_) q (by omega)))
      rw [hx d]
      constructor
      · rintro ⟨a, b⟩; exact ⟨by omega, b⟩
      · rintro ⟨a, b⟩
        by_cases e : d = i
        · subst e; exact absurd c b
        · exact ⟨by omega, b⟩
    · refine br_f (by rw [← Int32.toInt_inj, hM, e5]; exact c) (nm_e (nm_r (nI_1 i) (ih (i + 1) (by omega) _ (fun d => ?_) q (by omega))))
      rw [fd_or1 x (by omega), Bool.or_eq_true, hx d, decide_eq_true_iff]
      constructor
      · rintro (⟨a, b⟩ | e)
        · exact ⟨by omega, b⟩
        · subst e; exact ⟨by omega, c⟩
      · rintro ⟨a, b⟩
        by_cases e : d = i
        · exact Or.inr e
        · exact Or.inl ⟨by omega, b⟩
theorem fd_xne14 {c : Nat} {k : Int} (hT : fd_Tm n (a_kind, a_relation, a_constant, a_first, a_second, a_size, a_number, a_scope) c) (hn : n ≤ 8) (hc : c < 13) (hz1 : 1 ≤ fd_sz (a_kind, a_relation, a_constant, a_first, a_second, a_size, a_number, a_scope) c) (hz : ∀ j, j < fd_sz (a_kind, a_relation, a_constant, a_first, a_second, a_size, a_number, a_scope) c → fd_nu (a_kind, a_relation, a_constant, a_first, a_second, a_size, a_number, a_scope) c j ≠ 0) (hk : -5000 ≤ k ∧ k ≤ 5000) (hW : fd_NE n a_work)
    (h : ∀ r W' p', fd_Nar n a_watch a_work f_pending W' p' → fd_Rev n a_work (fun a => fd_sum (a_kind, a_relation, a_constant, a_first, a_second, a_size, a_number, a_scope) c a ≠ k) r W' → post r (f_objectiveSlot, f_maxVariables, f_maxConstraints, f_maxDepth, f_variables, f_space, f_failed, f_terms, f_cells, f_constraints, f_level, f_mode, f_found, f_exhausted, f_hasCurrent, f_objective, p', f_matched, f_depth, f_guided, f_bounded, a_dom, a_watch, a_order, a_direction, a_termA, a_termV, a_cellX, a_kind, a_relation, a_constant, a_first, a_second, a_size, a_number, a_scope, a_savedDom, a_savedConstraints, a_decidedVariable, a_decidedValue, a_current, W', a_sums, a_grown, a_image, a_mate, a_parent, a_queue, a_reach, a_frames, a_left)) :
    ∀ t j, j + t = fd_sz (a_kind, a_relation, a_constant, a_first, a_second, a_size, a_number, a_scope) c → ∀ (j0 : Nat) (x4 x5 : Int32), ((x4 = -1 ∧ j0 = 99) ∨ (x4 = nI j0 ∧ j0 < j ∧ ¬ (a_work (fd_sp (a_kind, a_relation, a_constant, a_first, a_second, a_size, a_number, a_scope) c j0) &&& (a_work (fd_sp (a_kind, a_relation, a_constant, a_first, a_second, a_size, a_number, a_scope) c j0) - 1)) = 0)) → (∀ i, i < j → i ≠ j0 → (a_work (fd_sp (a_kind, a_relation, a_constant, a_first, a_second, a_size, a_number, a_scope) c i) &&& (a_work (fd_sp (a_kind, a_relation, a_constant, a_first, a_second, a_size, a_number, a_scope) c i) - 1)) = 0) → x5.toInt = k - fd_sm (fd_fx (a_kind, a_relation, a_constant, a_first, a_second, a_size, a_number, a_scope) c a_work j0) j → ∀ q, t < q → wX_filterNotEqual_14 post (nI c) (nI (16 * c)) f_objectiveSlot f_maxVariables f_maxConstraints f_maxDepth f_variables f_space f_failed f_terms f_cells f_constraints f_level f_mode f_found f_exhausted f_hasCurrent f_objective f_pending f_matched f_depth f_guided f_bounded a_dom a_watch a_order a_direction a_termA a_termV a_cellX a_kind a_relation a_constant a_first a_second a_size a_number a_scope a_savedDom a_savedConstraints a_decidedVariable a_decidedValue a_current a_work a_sums a_grown a_image a_mate a_parent a_queue a_reach a_frames a_left q x4 x5 (nI j) := by
  have hsz : a_size c = nI (fd_sz (a_kind, a_relation, a_constant, a_first, a_second, a_size, a_number, a_scope) c) := hT.2.1
  have h8 := hT.1
  have e2 : (nI c).toNatClampNeg = c := pk_cl c
  intro t
  induction t with
  | zero =>
    intro j hj j0 x4 x5 h4 hs hx5 q hq
    obtain ⟨q, rfl⟩ : ∃ q', q = q' + 1 := ⟨q - 1, by omega⟩
    have ej : j = fd_sz (a_kind, a_relation, a_constant, a_first, a_second, a_size, a_number, a_scope) c := by omega
    subst ej
    refine ⟨pk_in c 13 hc, ?_⟩
    rw [e2, hsz]
    refine pk_le (fd_sz (a_kind, a_relation, a_constant, a_first, a_second, a_size, a_number, a_scope) c) (fd_sz (a_kind, a_relation, a_constant, a_first, a_second, a_size, a_number, a_scope) c) (fun _ => ?_) (fun c => absurd c (by omega))
    rcases h4 with ⟨rfl, rfl⟩ | ⟨rfl, hj0, hns⟩
    · refine br_f (by decide) ?_
      have hv : ∀ a, fd_In n a_work a → fd_sum (a_kind, a_relation, a_constant, a_first, a_second, a_size, a_number, a_scope) c a = fd_sm (fd_fx (a_kind, a_relation, a_constant, a_first, a_second, a_size, a_number, a_scope) c a_work 99) (fd_sz (a_kind, a_relation, a_constant, a_first, a_second, a_size, a_number, a_scope) c) := fun a ha => fd_fx_all hT hW (by omega) (fun i hi => hs i hi (by omega)) ha
      by_cases z : x5 = 0
      · refine br_t z (h 0 a_work f_pending fd_Nar_rf (Or.inr ⟨rfl, fun a ha hP => hP ?_⟩))
        rw [hv a ha]
        rw [z] at hx5
        have : (0 : Int32).toInt = 0 := rfl
        omega
      · refine br_f z (h 1 a_work f_pending fd_Nar_rf (fd_fin1 hW (fun v _ d hd => ⟨_, fd_In_up (fd_In_lo hW) hd, ?_, fd_up_s _ _ _⟩)))
        show fd_sum (a_kind, a_relation, a_constant, a_first, a_second, a_size, a_number, a_scope) c _ ≠ k
        rw [hv _ (fd_In_up (fd_In_lo hW) hd)]
        intro e
        apply z
        rw [← Int32.toInt_inj, hx5]
        have : (0 : Int32).toInt = 0 := rfl
        omega
    · obtain ⟨t1, t2, t3, t4⟩ := hT.2.2.1 j0 hj0
      have e3 : (nI (16 * c + j0)).toNatClampNeg = 16 * c + j0 := pk_cl _
      have hv : ∀ a, fd_In n a_work a → fd_sum (a_kind, a_relation, a_constant, a_first, a_second, a_size, a_number, a_scope) c a = fd_sm (fd_fx (a_kind, a_relation, a_constant, a_first, a_second, a_size, a_number, a_scope) c a_work j0) (fd_sz (a_kind, a_relation, a_constant, a_first, a_second, a_size, a_number, a_scope) c) + fd_nu (a_kind, a_relation, a_constant, a_first, a_second, a_size, a_number, a_scope) c j0 * (a (fd_sp (a_kind, a_relation, a_constant, a_first, a_second, a_size, a_number, a_scope) c j0) : Int) := fun a ha => fd_fx_sum hT hW hj0 (fun i hi hne => hs i hi hne) ha
      refine br_t (nI_pos' (by omega)) ?_
      rw [nI_add, e3]
      refine ⟨pk_in (16 * c + j0) 208 (by omega), nm_e ⟨33, fd_xne124 (A := fd_nu (a_kind, a_relation, a_constant, a_first, a_second, a_size, a_number, a_scope) c j0) (by omega) t2 t1 hn rfl t3 t4 hx5 (fun r m p' hm hN hr => ?_) 32 0 rfl 0 (fun d => by rw [b_0]; constructor <;> intro h <;> first | exact absurd h (by decide) | exact absurd h.1 (by omega)) 33 (by omega)⟩⟩
      refine h r _ p' hN ?_
      have key : ∀ a, fd_In n a_work a → (fd_sum (a_kind, a_relation, a_constant, a_first, a_second, a_size, a_number, a_scope) c a ≠ k ↔ bt m (a (fd_sp (a_kind, a_relation, a_constant, a_first, a_second, a_size, a_number, a_scope) c j0)) = true) := by
        intro a ha
        rw [hv a ha, hm]
        have := fd_lt (ha _ t1)
        constructor
        · intro x; exact ⟨this, by omega⟩
        · intro x; have := x.2; omega
      rcases hr with ⟨rfl, z⟩ | ⟨rfl, z⟩
      · refine Or.inr ⟨rfl, fun a ha hP => ?_⟩
        have b := fd_eq0.mp z (a (fd_sp (a_kind, a_relation, a_constant, a_first, a_second, a_size, a_number, a_scope) c j0))
        rw [b_and, ha _ t1, (key a ha).mp hP] at b
        exact absurd b (by decide)
      · obtain ⟨d0, hd0⟩ := fd_ne0.mp z
        rw [b_and, Bool.and_eq_true] at hd0
        have i0 := fd_In_up (fd_In_lo hW) hd0.1
        have p0 : fd_sum (a_kind, a_relation, a_constant, a_first, a_second, a_size, a_number, a_scope) c (fd_up (fun v => fd_lo (a_work v)) (fd_sp (a_kind, a_relation, a_constant, a_first, a_second, a_size, a_number, a_scope) c j0) d0) ≠ k := (key _ i0).mpr (by rw [fd_up_s]; exact hd0.2)
        refine fd_fin (S := fun v => ∃ j, j < fd_sz (a_kind, a_relation, a_constant, a_first, a_second, a_size, a_number, a_scope) c ∧ fd_sp (a_kind, a_relation, a_constant, a_first, a_second, a_size, a_number, a_scope) c j = v) (fun a b hab ha => ?_) (fd_Mid_1 t1 fd_Mid_rf (fun d hd hp => ?_)) (fun v hv' hS d hd => ?_) _ i0 p0
        · show fd_sum (a_kind, a_relation, a_constant, a_first, a_second, a_size, a_number, a_scope) c b ≠ k
          rw [← fd_sum_dep (fun j hj => hab _ ⟨j, hj, rfl⟩)]; exact ha
        · obtain ⟨a, ha, hP, e⟩ := hp
          rw [← e]; exact (key a ha).mp hP
        · obtain ⟨i, hi, e⟩ := hS
          by_cases q : i = j0
          · subst q
            subst e
            rw [pk_us, b_and, Bool.and_eq_true] at hd
            have i1 := fd_In_up (fd_In_lo hW) hd.1
            exact ⟨_, i1, (key _ i1).mpr (by rw [fd_up_s]; exact hd.2), fd_up_s _ _ _⟩
          · have hne : v ≠ fd_sp (a_kind, a_relation, a_constant, a_first, a_second, a_size, a_number, a_scope) c j0 := fun x => q (hT.2.2.2 i j0 hi hj0 (by rw [e, x]))
            rw [pk_un hne] at hd
            subst e
            refine ⟨_, i0, p0, ?_⟩
            rw [fd_up_n _ hne, fd_one (hW _ hv') (hs i hi q) hd]
  | succ t ih =>
    intro j hj j0 x4 x5 h4 hs hx5 q hq
    obtain ⟨q, rfl⟩ : ∃ q', q = q' + 1 := ⟨q - 1, by omega⟩
    refine ⟨pk_in c 13 hc, ?_⟩
    rw [e2, hsz]
    refine pk_le (fd_sz (a_kind, a_relation, a_constant, a_first, a_second, a_size, a_number, a_scope) c) j (fun c => absurd c (by omega)) (fun _ => ?_)
    have hjz : j < fd_sz (a_kind, a_relation, a_constant, a_first, a_second, a_size, a_number, a_scope) c := by omega
    obtain ⟨t1, t2, t3, t4⟩ := hT.2.2.1 j hjz
    have t2' : a_scope (16 * c + j) = nI (fd_sp (a_kind, a_relation, a_constant, a_first, a_second, a_size, a_number, a_scope) c j) := t2
    have e3 : (nI (16 * c + j)).toNatClampNeg = 16 * c + j := pk_cl _
    have e5 : (nI (fd_sp (a_kind, a_relation, a_constant, a_first, a_second, a_size, a_number, a_scope) c j)).toNatClampNeg = fd_sp (a_kind, a_relation, a_constant, a_first, a_second, a_size, a_number, a_scope) c j := pk_cl _
    rw [nI_add, e3, t2', e5]
    refine ⟨pk_in (16 * c + j) 208 (by omega), ⟨fd_in8 (by omega), nm_e (fd_xsingle ?_)⟩⟩
    by_cases hsn : (a_work (fd_sp (a_kind, a_relation, a_constant, a_first, a_second, a_size, a_number, a_scope) c j) &&& (a_work (fd_sp (a_kind, a_relation, a_constant, a_first, a_second, a_size, a_number, a_scope) c j) - 1)) = 0
    · rw [if_pos hsn]
      refine br_f (by decide) ⟨pk_in (16 * c + j) 208 (by omega), fd_xlo ?_⟩
      intro y ey
      have hne : j ≠ j0 := by
        rcases h4 with ⟨_, r⟩ | ⟨_, r, _⟩ <;> omega
      have lb := fd_lo_32 (a_work (fd_sp (a_kind, a_relation, a_constant, a_first, a_second, a_size, a_number, a_scope) c j))
      have e4 : (nI (fd_lo (a_work (fd_sp (a_kind, a_relation, a_constant, a_first, a_second, a_size, a_number, a_scope) c j)))).toInt = (fd_lo (a_work (fd_sp (a_kind, a_relation, a_constant, a_first, a_second, a_size, a_number, a_scope) c j)) : Int) := nI_toInt (by omega)
      have hnu : fd_nu (a_kind, a_relation, a_constant, a_first, a_second, a_size, a_number, a_scope) c j = (a_number (16 * c + j)).toInt := rfl
      have mb := fd_mb t3 t4 (g := (fd_lo (a_work (fd_sp (a_kind, a_relation, a_constant, a_first, a_second, a_size, a_number, a_scope) c j)) : Int)) (by omega) (by omega)
      have em : (a_number (16 * c + j) * nI (fd_lo (a_work (fd_sp (a_kind, a_relation, a_constant, a_first, a_second, a_size, a_number, a_scope) c j)))).toInt = fd_nu (a_kind, a_relation, a_constant, a_first, a_second, a_size, a_number, a_scope) c j * (fd_lo (a_work (fd_sp (a_kind, a_relation, a_constant, a_first, a_second, a_size, a_number, a_scope) c j)) : Int) := by
        rw [fd_mul (by rw [e4, ← hnu]; omega) (by rw [e4, ← hnu]; omega), e4, ← hnu]
      have sb := fd_sm_pbd (f := fd_fx (a_kind, a_relation, a_constant, a_first, a_second, a_size, a_number, a_scope) c a_work j0) (m := fd_sz (a_kind, a_relation, a_constant, a_first, a_second, a_size, a_number, a_scope) c) (k := j) h8 (by omega) (fun i hi => fd_fx_bd hT hi)
      refine nm_r (nI_1 j) (ih (j + 1) (by omega) j0 x4 y ?_ (fun i hi hne' => ?_) ?_ q (by omega))
      · rcases h4 with r | ⟨r1, r2, r3⟩
        · exact Or.inl r
        · exact Or.inr ⟨r1, by omega, r3⟩
      · by_cases e : i = j
        · rw [e]; exact hsn
        · exact hs i (by omega) hne'
      · have ef : fd_fx (a_kind, a_relation, a_constant, a_first, a_second, a_size, a_number, a_scope) c a_work j0 j = fd_nu (a_kind, a_relation, a_constant, a_first, a_second, a_size, a_number, a_scope) c j * (fd_lo (a_work (fd_sp (a_kind, a_relation, a_constant, a_first, a_second, a_size, a_number, a_scope) c j)) : Int) := by unfold fd_fx; rw [if_neg hne]
        rw [ey, fd_sub (by rw [hx5, em]; omega) (by rw [hx5, em]; omega), hx5, em, fd_sm_s, ef]; omega
    · rw [if_neg hsn]
      refine br_t rfl ?_
      rcases h4 with ⟨rfl, rfl⟩ | ⟨rfl, hj0, hns⟩
      · refine br_t (by decide) (nm_r (nI_1 j) (ih (j + 1) (by omega) j (nI j) x5 (Or.inr ⟨rfl, by omega, hsn⟩) (fun i hi hne => hs i (by omega) (by omega)) ?_ q (by omega)))
        rw [hx5, fd_sm_s]
        have e1 : fd_sm (fd_fx (a_kind, a_relation, a_constant, a_first, a_second, a_size, a_number, a_scope) c a_work 99) j = fd_sm (fd_fx (a_kind, a_relation, a_constant, a_first, a_second, a_size, a_number, a_scope) c a_work j) j := fd_sm_congr (fun i hi => by unfold fd_fx; rw [if_neg (by omega), if_neg (by omega)])
        have e2 : fd_fx (a_kind, a_relation, a_constant, a_first, a_second, a_size, a_number, a_scope) c a_work j j = 0 := by unfold fd_fx; rw [if_pos rfl]
        rw [e1, e2]; omega
      · exact br_f (nI_pos (by omega)) (h 1 a_work f_pending fd_Nar_rf (fd_fin1 hW (fun v _ d hd => fd_ne_all hT hz hW (by omega) hjz (by omega) hns hsn hd)))
theorem fd_xnoteq {c : Nat} {k : Int} {K : Int32} (hT : fd_Tm n (a_kind, a_relation, a_constant, a_first, a_second, a_size, a_number, a_scope) c) (hn : n ≤ 8) (hc : c < 13) (hz1 : 1 ≤ fd_sz (a_kind, a_relation, a_constant, a_first, a_second, a_size, a_number, a_scope) c) (hz : ∀ j, j < fd_sz (a_kind, a_relation, a_constant, a_first, a_second, a_size, a_number, a_scope) c → fd_nu (a_kind, a_relation, a_constant, a_first, a_second, a_size, a_number, a_scope) c j ≠ 0) (hK : K.toInt = k) (hk : -5000 ≤ k ∧ k ≤ 5000) (hW : fd_NE n a_work)
    (h : ∀ r W' p', fd_Nar n a_watch a_work f_pending W' p' → fd_Rev n a_work (fun a => fd_sum (a_kind, a_relation, a_constant, a_first, a_second, a_size, a_number, a_scope) c a ≠ k) r W' → post r (f_objectiveSlot, f_maxVariables, f_maxConstraints, f_maxDepth, f_variables, f_space, f_failed, f_terms, f_cells, f_constraints, f_level, f_mode, f_found, f_exhausted, f_hasCurrent, f_objective, p', f_matched, f_depth, f_guided, f_bounded, a_dom, a_watch, a_order, a_direction, a_termA, a_termV, a_cellX, a_kind, a_relation, a_constant, a_first, a_second, a_size, a_number, a_scope, a_savedDom, a_savedConstraints, a_decidedVariable, a_decidedValue, a_current, W', a_sums, a_grown, a_image, a_mate, a_parent, a_queue, a_reach, a_frames, a_left)) : wpX_filterNotEqual post (f_objectiveSlot, f_maxVariables, f_maxConstraints, f_maxDepth, f_variables, f_space, f_failed, f_terms, f_cells, f_constraints, f_level, f_mode, f_found, f_exhausted, f_hasCurrent, f_objective, f_pending, f_matched, f_depth, f_guided, f_bounded, a_dom, a_watch, a_order, a_direction, a_termA, a_termV, a_cellX, a_kind, a_relation, a_constant, a_first, a_second, a_size, a_number, a_scope, a_savedDom, a_savedConstraints, a_decidedVariable, a_decidedValue, a_current, a_work, a_sums, a_grown, a_image, a_mate, a_parent, a_queue, a_reach, a_frames, a_left) (nI c) K := by
  have e1 : nI c * 16 = nI (16 * c) := by
    have e : nI c * 16 = nI (c * 16) := pk_mul c 16
    rw [e, Nat.mul_comm]
  refine nm_r e1 ⟨fd_sz (a_kind, a_relation, a_constant, a_first, a_second, a_size, a_number, a_scope) c + 1, ?_⟩
  exact fd_xne14 hT hn hc hz1 hz hk hW h (fd_sz (a_kind, a_relation, a_constant, a_first, a_second, a_size, a_number, a_scope) c) 0 (by omega) 99 (-1) K (Or.inl ⟨rfl, rfl⟩) (fun i hi => absurd hi (by omega)) (by rw [hK]; show k = k - 0; omega) _ (by omega)
end
end
section
/-! ===== X: filterEqual, filterLinear ===== -/
section
variable {n : Nat} {G : fd_FC} {c : Nat} {W : Nat → Int32}
theorem fd_sum1 (h : fd_sz G c = 1) (a : Nat → Nat) : fd_sum G c a = fd_nu G c 0 * (a (fd_sp G c 0) : Int) := by
  unfold fd_sum; rw [h, fd_sm_s]; show 0 + _ = _; omega
theorem fd_sum2 (h : fd_sz G c = 2) (a : Nat → Nat) : fd_sum G c a = fd_nu G c 0 * (a (fd_sp G c 0) : Int) + fd_nu G c 1 * (a (fd_sp G c 1) : Int) := by
  unfold fd_sum; rw [h, fd_sm_s, fd_sm_s]; show 0 + _ + _ = _; omega
theorem fd_eq_PJ1 (hT : fd_Tm n G c) (hW : fd_NE n W) (h : fd_sz G c = 1) {k : Int} {d : Nat} : fd_PJ n W (fun a => fd_sum G c a = k) (fd_sp G c 0) d ↔ (bt (W (fd_sp G c 0)) d = true ∧ fd_nu G c 0 * (d : Int) = k) := by
  have hl := (hT.2.2.1 0 (by omega)).1
  constructor
  · rintro ⟨a, ha, hP, e⟩
    have hP : fd_sum G c a = k := hP
    rw [fd_sum1 h, e] at hP
    have := ha _ hl
    rw [e] at this
    exact ⟨this, hP⟩
  · rintro ⟨hd, e⟩
    refine ⟨_, fd_In_up (fd_In_lo hW) hd, ?_, fd_up_s _ _ _⟩
    show fd_sum G c _ = k
    rw [fd_sum1 h, fd_up_s]; exact e
theorem fd_eq_PJ2 (hT : fd_Tm n G c) (hW : fd_NE n W) (h : fd_sz G c = 2) {k : Int} {j d : Nat} (hj : j < 2) : fd_PJ n W (fun a => fd_sum G c a = k) (fd_sp G c j) d ↔ (bt (W (fd_sp G c j)) d = true ∧ ∃ e, bt (W (fd_sp G c (1 - j))) e = true ∧ fd_nu G c (1 - j) * (e : Int) = k - fd_nu G c j * (d : Int)) := by
  have hl0 := (hT.2.2.1 0 (by omega)).1
  have hl1 := (hT.2.2.1 1 (by omega)).1
  have hne : fd_sp G c 0 ≠ fd_sp G c 1 := fun x => by have := hT.2.2.2 0 1 (by omega) (by omega) x; omega
  constructor
  · rintro ⟨a, ha, hP, e⟩
    have hP : fd_sum G c a = k := hP
    rw [fd_sum2 h] at hP
    rcases (by omega : j = 0 ∨ j = 1) with q | q
    · subst q
      have x := ha _ hl0
      rw [e] at x hP
      exact ⟨x, a (fd_sp G c 1), ha _ hl1, by show fd_nu G c 1 * (a (fd_sp G c 1) : Int) = _; omega⟩
    · subst q
      have x := ha _ hl1
      rw [e] at x hP
      exact ⟨x, a (fd_sp G c 0), ha _ hl0, by show fd_nu G c 0 * (a (fd_sp G c 0) : Int) = _; omega⟩
  · rintro ⟨hd, e, he, hs⟩
    rcases (by omega : j = 0 ∨ j = 1) with q | q
    · subst q
      refine ⟨_, fd_In_up (fd_In_up (fd_In_lo hW) he) hd, ?_, fd_up_s _ _ _⟩
      show fd_sum G c _ = k
      have hs : fd_nu G c 1 * (e : Int) = k - fd_nu G c 0 * (d : Int) := hs
      rw [fd_sum2 h, fd_up_s, fd_up_n _ (Ne.symm hne)]
      show _ + fd_nu G c 1 * ((fd_up _ (fd_sp G c 1) e (fd_sp G c 1) : Nat) : Int) = k
      rw [fd_up_s]; omega
    · subst q
      refine ⟨_, fd_In_up (fd_In_up (fd_In_lo hW) he) hd, ?_, fd_up_s _ _ _⟩
      show fd_sum G c _ = k
      have hs : fd_nu G c 0 * (e : Int) = k - fd_nu G c 1 * (d : Int) := hs
      rw [fd_sum2 h, fd_up_s, fd_up_n _ hne]
      show fd_nu G c 0 * ((fd_up _ (fd_sp G c 0) e (fd_sp G c 0) : Nat) : Int) + _ = k
      rw [fd_up_s]; omega
end
section
variable {f_objectiveSlot f_maxVariables f_maxConstraints f_maxDepth f_variables f_space f_failed f_terms f_cells f_constraints f_level f_mode f_found f_exhausted f_hasCurrent f_objective f_pending : Int32} {f_matched : Int64} {f_depth f_guided f_bounded : Int32} {a_dom a_watch a_order a_direction a_termA a_termV a_cellX a_kind a_relation a_constant a_first a_second a_size a_number a_scope a_savedDom a_savedConstraints a_decidedVariable a_decidedValue a_current a_work a_sums a_grown : Nat → Int32} {a_image : Nat → Int64} {a_mate a_parent a_queue a_reach a_frames a_left : Nat → Int32} {post : Int32 → SX → Prop} {n : Nat}
theorem fd_xeq98 {J : Int32 → Int32 → Int32 → Int32 → Int32 → Int32 → Int32 → Int32 → Int32 → Int32 → Int32 → Int32 → Int32 → Int32 → Int32 → Int32 → Int32 → Int32 → Int64 → Int32 → Int32 → Int32 → (Nat → Int32) → (Nat → Int32) → (Nat → Int32) → (Nat → Int32) → (Nat → Int32) → (Nat → Int32) → (Nat → Int32) → (Nat → Int32) → (Nat → Int32) → (Nat → Int32) → (Nat → Int32) → (Nat → Int32) → (Nat → Int32) → (Nat → Int32) → (Nat → Int32) → (Nat → Int32) → (Nat → Int32) → (Nat → Int32) → (Nat → Int32) → (Nat → Int32) → (Nat → Int32) → (Nat → Int32) → (Nat → Int32) → (Nat → Int64) → (Nat → Int32) → (Nat → Int32) → (Nat → Int32) → (Nat → Int32) → (Nat → Int32) → (Nat → Int32) → Prop} {x2 x3 x4 x7 x8 x9 : Int32} {j v : Nat} (hv : v < n) (hn : n ≤ 8)
    (h0 : ∀ (k : Int32) p', (∀ d, bt k d = true ↔ (bt (a_work v) d = true ∧ ∃ e, bt x9 e = true ∧ x8 * nI e = x2 - x7 * nI d)) → fd_Nar n a_watch a_work f_pending (upd a_work v (a_work v &&& k)) p' → (a_work v &&& k) = 0 → post 0 (f_objectiveSlot, f_maxVariables, f_maxConstraints, f_maxDepth, f_variables, f_space, f_failed, f_terms, f_cells, f_constraints, f_level, f_mode, f_found, f_exhausted, f_hasCurrent, f_objective, p', f_matched, f_depth, f_guided, f_bounded, a_dom, a_watch, a_order, a_direction, a_termA, a_termV, a_cellX, a_kind, a_relation, a_constant, a_first, a_second, a_size, a_number, a_scope, a_savedDom, a_savedConstraints, a_decidedVariable, a_decidedValue, a_current, upd a_work v (a_work v &&& k), a_sums, a_grown, a_image, a_mate, a_parent, a_queue, a_reach, a_frames, a_left))
    (h1 : ∀ (k : Int32) p', (∀ d, bt k d = true ↔ (bt (a_work v) d = true ∧ ∃ e, bt x9 e = true ∧ x8 * nI e = x2 - x7 * nI d)) → fd_Nar n a_watch a_work f_pending (upd a_work v (a_work v &&& k)) p' → (a_work v &&& k) ≠ 0 → J (nI (j + 1)) f_objectiveSlot f_maxVariables f_maxConstraints f_maxDepth f_variables f_space f_failed f_terms f_cells f_constraints f_level f_mode f_found f_exhausted f_hasCurrent f_objective p' f_matched f_depth f_guided f_bounded a_dom a_watch a_order a_direction a_termA a_termV a_cellX a_kind a_relation a_constant a_first a_second a_size a_number a_scope a_savedDom a_savedConstraints a_decidedVariable a_decidedValue a_current (upd a_work v (a_work v &&& k)) a_sums a_grown a_image a_mate a_parent a_queue a_reach a_frames a_left) :
    ∀ k i, i + k = 32 → ∀ x : Int32, (∀ d, bt x d = true ↔ (d < i ∧ bt (a_work v) d = true ∧ ∃ e, bt x9 e = true ∧ x8 * nI e = x2 - x7 * nI d)) → ∀ q, k < q → wX_filterEqual_98 post J x2 x3 x4 (nI j) (nI v) x7 x8 x9 f_objectiveSlot f_maxVariables f_maxConstraints f_maxDepth f_variables f_space f_failed f_terms f_cells f_constraints f_level f_mode f_found f_exhausted f_hasCurrent f_objective f_pending f_matched f_depth f_guided f_bounded a_dom a_watch a_order a_direction a_termA a_termV a_cellX a_kind a_relation a_constant a_first a_second a_size a_number a_scope a_savedDom a_savedConstraints a_decidedVariable a_decidedValue a_current a_work a_sums a_grown a_image a_mate a_parent a_queue a_reach a_frames a_left q x (nI i) := by
  have e1 : (nI v).toNatClampNeg = v := pk_cl v
  intro k
  induction k with
  | zero =>
    intro i hi x hx q hq
    obtain ⟨q, rfl⟩ : ∃ q', q = q' + 1 := ⟨q - 1, by omega⟩
    have e : i = 32 := by omega
    subst e
    have hx' : ∀ d, bt x d = true ↔ (bt (a_work v) d = true ∧ ∃ e, bt x9 e = true ∧ x8 * nI e = x2 - x7 * nI d) := fun d => by
      rw [hx d]; exact ⟨fun y => y.2, fun y => ⟨fd_lt y.1, y⟩⟩
    refine pk_le 32 32 (fun _ => ?_) (fun c => absurd c (by omega))
    refine fd_xnar hv hn (fun r p' hN hr => ?_)
    rcases hr with ⟨rfl, z⟩ | ⟨rfl, z⟩
    · exact br_t rfl (h0 x p' hx' hN z)
    · exact br_f (by decide) (nm_r (nI_1 j) (h1 x p' hx' hN z))
  | succ k ih =>
    intro i hi x hx q hq
    obtain ⟨q, rfl⟩ : ∃ q', q = q' + 1 := ⟨q - 1, by omega⟩
    refine pk_le 32 i (fun c => absurd c (by omega)) (fun _ => ?_)
    have skip : (¬ (bt (a_work v) i = true ∧ ∃ e, bt x9 e = true ∧ x8 * nI e = x2 - x7 * nI i)) → ∀ d, bt x d = true ↔ (d < i + 1 ∧ bt (a_work v) d = true ∧ ∃ e, bt x9 e = true ∧ x8 * nI e = x2 - x7 * nI d) := by
      intro hno d
      rw [hx d]
      constructor
      · rintro ⟨a, b⟩; exact ⟨by omega, b⟩
      · rintro ⟨a, b⟩
        by_cases e : d = i
        · subst e; exact absurd b hno
        · exact ⟨by omega, b⟩
    rw [e1]
    refine ⟨pk_in v 8 (by omega), ?_⟩
    by_cases hb : bt (a_work v) i = true
    · refine br_f ((fd_nbit _ (by omega)).mpr hb) (fd_xhits (fun e he hee => ?_) (fun hno => ?_))
      · refine br_f (by decide) (nm_e (nm_r (nI_1 i) (ih (i + 1) (by omega) _ (fun d => ?_) q (by omega))))
        rw [fd_or1 x (by omega), Bool.or_eq_true, hx d, decide_eq_true_iff]
        constructor
        · rintro (⟨a, b⟩ | q)
          · exact ⟨by omega, b⟩
          · subst q; exact ⟨by omega, hb, e, he, hee⟩
        · rintro ⟨a, b⟩
          by_cases e : d = i
          · exact Or.inr e
          · exact Or.inl ⟨by omega, b⟩
      · exact br_t rfl (nm_r (nI_1 i) (ih (i + 1) (by omega) x (skip (fun ⟨_, e, a, b⟩ => hno e a b)) q (by omega)))
    · exact br_t ((fd_bit _ (by omega)).mpr (by simpa using hb)) (nm_r (nI_1 i) (ih (i + 1) (by omega) x (skip (fun y => hb y.1)) q (by omega)))
theorem fd_eqI {A K x7 x8 : Int32} {a b k : Int} {d e : Nat} (ha : x7.toInt = a) (ha1 : -8 ≤ a) (ha2 : a ≤ 8) (hb : x8.toInt = b) (hb1 : -8 ≤ b) (hb2 : b ≤ 8) (hK : K.toInt = k) (hk : -5000 ≤ k ∧ k ≤ 5000) (hd : d < 32) (he : e < 32) : x8 * nI e = K - x7 * nI d ↔ b * (e : Int) = k - a * (d : Int) := by
  have e4 : (nI d).toInt = (d : Int) := nI_toInt (by omega)
  have e5 : (nI e).toInt = (e : Int) := nI_toInt (by omega)
  have m1 := fd_mb ha1 ha2 (g := (d : Int)) (by omega) (by omega)
  have m2 := fd_mb hb1 hb2 (g := (e : Int)) (by omega) (by omega)
  have f1 : (x7 * nI d).toInt = a * (d : Int) := by rw [fd_mul (by rw [e4, ha]; omega) (by rw [e4, ha]; omega), e4, ha]
  have f2 : (x8 * nI e).toInt = b * (e : Int) := by rw [fd_mul (by rw [e5, hb]; omega) (by rw [e5, hb]; omega), e5, hb]
  rw [← Int32.toInt_inj, f2, fd_sub (by rw [f1, hK]; omega) (by rw [f1, hK]; omega), f1, hK]
theorem fd_xeq16 {c : Nat} {k : Int} {K : Int32} (hT : fd_Tm n (a_kind, a_relation, a_constant, a_first, a_second, a_size, a_number, a_scope) c) (hn : n ≤ 8) (hc : c < 13) (hz1 : 1 ≤ fd_sz (a_kind, a_relation, a_constant, a_first, a_second, a_size, a_number, a_scope) c) (hz2 : fd_sz (a_kind, a_relation, a_constant, a_first, a_second, a_size, a_number, a_scope) c ≤ 2) (hK : K.toInt = k) (hk : -5000 ≤ k ∧ k ≤ 5000) (hW : fd_NE n a_work)
    (h : ∀ r W' p', fd_Nar n a_watch a_work f_pending W' p' → fd_Rev n a_work (fun a => fd_sum (a_kind, a_relation, a_constant, a_first, a_second, a_size, a_number, a_scope) c a = k) r W' → post r (f_objectiveSlot, f_maxVariables, f_maxConstraints, f_maxDepth, f_variables, f_space, f_failed, f_terms, f_cells, f_constraints, f_level, f_mode, f_found, f_exhausted, f_hasCurrent, f_objective, p', f_matched, f_depth, f_guided, f_bounded, a_dom, a_watch, a_order, a_direction, a_termA, a_termV, a_cellX, a_kind, a_relation, a_constant, a_first, a_second, a_size, a_number, a_scope, a_savedDom, a_savedConstraints, a_decidedVariable, a_decidedValue, a_current, W', a_sums, a_grown, a_image, a_mate, a_parent, a_queue, a_reach, a_frames, a_left)) :
    ∀ t j, j + t = fd_sz (a_kind, a_relation, a_constant, a_first, a_second, a_size, a_number, a_scope) c → ∀ W p, fd_NE n W → fd_Nar n a_watch a_work f_pending W p → fd_Mid n a_work (fun a => fd_sum (a_kind, a_relation, a_constant, a_first, a_second, a_size, a_number, a_scope) c a = k) W → (∀ i, i < j → ∀ d, bt (W (fd_sp (a_kind, a_relation, a_constant, a_first, a_second, a_size, a_number, a_scope) c i)) d = true → fd_PJ n a_work (fun a => fd_sum (a_kind, a_relation, a_constant, a_first, a_second, a_size, a_number, a_scope) c a = k) (fd_sp (a_kind, a_relation, a_constant, a_first, a_second, a_size, a_number, a_scope) c i) d) → ∀ q, t < q → wX_filterEqual_16 post K (nI (16 * c)) (nI (fd_sz (a_kind, a_relation, a_constant, a_first, a_second, a_size, a_number, a_scope) c)) q (nI j) f_objectiveSlot f_maxVariables f_maxConstraints f_maxDepth f_variables f_space f_failed f_terms f_cells f_constraints f_level f_mode f_found f_exhausted f_hasCurrent f_objective p f_matched f_depth f_guided f_bounded a_dom a_watch a_order a_direction a_termA a_termV a_cellX a_kind a_relation a_constant a_first a_second a_size a_number a_scope a_savedDom a_savedConstraints a_decidedVariable a_decidedValue a_current W a_sums a_grown a_image a_mate a_parent a_queue a_reach a_frames a_left := by
  intro t
  induction t with
  | zero =>
    intro j hj W p hWn hN hM hP q hq
    obtain ⟨q, rfl⟩ : ∃ q', q = q' + 1 := ⟨q - 1, by omega⟩
    refine pk_le (fd_sz (a_kind, a_relation, a_constant, a_first, a_second, a_size, a_number, a_scope) c) j (fun _ => h 1 W p hN ?_) (fun c => absurd c (by omega))
    obtain ⟨d0, hd0⟩ := fd_ne0.mp (hWn _ (hT.2.2.1 0 (by omega)).1)
    obtain ⟨a0, ha0, hP0, _⟩ := hP 0 (by omega) d0 hd0
    refine fd_fin (S := fun v => ∃ j, j < fd_sz (a_kind, a_relation, a_constant, a_first, a_second, a_size, a_number, a_scope) c ∧ fd_sp (a_kind, a_relation, a_constant, a_first, a_second, a_size, a_number, a_scope) c j = v) (fun a b hab ha => ?_) hM (fun v hv hS d hd => ?_) a0 ha0 hP0
    · show fd_sum (a_kind, a_relation, a_constant, a_first, a_second, a_size, a_number, a_scope) c b = k
      rw [← fd_sum_dep (fun j hj => hab _ ⟨j, hj, rfl⟩)]; exact ha
    · obtain ⟨i, hi, e⟩ := hS
      rw [← e] at hd ⊢
      exact hP i (by omega) d hd
  | succ t ih =>
    intro j hj W p hWn hN hM hP q hq
    obtain ⟨q, rfl⟩ : ∃ q', q = q' + 1 := ⟨q - 1, by omega⟩
    refine pk_le (fd_sz (a_kind, a_relation, a_constant, a_first, a_second, a_size, a_number, a_scope) c) j (fun c => absurd c (by omega)) (fun _ => ?_)
    refine pk_le 2 j (fun c => absurd c (by omega)) (fun _ => ?_)
    have hjz : j < fd_sz (a_kind, a_relation, a_constant, a_first, a_second, a_size, a_number, a_scope) c := by omega
    obtain ⟨t1, t2, t3, t4⟩ := hT.2.2.1 j hjz
    have t2' : a_scope (16 * c + j) = nI (fd_sp (a_kind, a_relation, a_constant, a_first, a_second, a_size, a_number, a_scope) c j) := t2
    have e3 : (nI (16 * c + j)).toNatClampNeg = 16 * c + j := pk_cl _
    have e6 : nI (16 * c) + 1 - nI j = nI (16 * c + (1 - j)) := by
      rw [nI_1, pk_sub (by omega)]; congr 1; omega
    have e7 : (nI (16 * c + (1 - j))).toNatClampNeg = 16 * c + (1 - j) := pk_cl _
    rw [e6, nI_add, e3, e7]
    refine ⟨pk_in (16 * c + j) 208 (by omega), nm_r t2' ⟨pk_in (16 * c + j) 208 (by omega), nm_e ⟨pk_in (16 * c + (1 - j)) 208 (by omega), nm_e ?_⟩⟩⟩
    -- the end of the inner loop, for an exact mask
    have fin : ∀ om : Int32, (∀ d, bt (W (fd_sp (a_kind, a_relation, a_constant, a_first, a_second, a_size, a_number, a_scope) c j)) d = true → ((∃ e, bt om e = true ∧ a_number (16 * c + (1 - j)) * nI e = K - a_number (16 * c + j) * nI d) ↔ fd_PJ n a_work (fun a => fd_sum (a_kind, a_relation, a_constant, a_first, a_second, a_size, a_number, a_scope) c a = k) (fd_sp (a_kind, a_relation, a_constant, a_first, a_second, a_size, a_number, a_scope) c j) d)) → wX_filterEqual_98 post (wX_filterEqual_16 post K (nI (16 * c)) (nI (fd_sz (a_kind, a_relation, a_constant, a_first, a_second, a_size, a_number, a_scope) c)) q) K (nI (16 * c)) (nI (fd_sz (a_kind, a_relation, a_constant, a_first, a_second, a_size, a_number, a_scope) c)) (nI j) (nI (fd_sp (a_kind, a_relation, a_constant, a_first, a_second, a_size, a_number, a_scope) c j)) (a_number (16 * c + j)) (a_number (16 * c + (1 - j))) om f_objectiveSlot f_maxVariables f_maxConstraints f_maxDepth f_variables f_space f_failed f_terms f_cells f_constraints f_level f_mode f_found f_exhausted f_hasCurrent f_objective p f_matched f_depth f_guided f_bounded a_dom a_watch a_order a_direction a_termA a_termV a_cellX a_kind a_relation a_constant a_first a_second a_size a_number a_scope a_savedDom a_savedConstraints a_decidedVariable a_decidedValue a_current W a_sums a_grown a_image a_mate a_parent a_queue a_reach a_frames a_left 33 0 0 := by
      intro om hom
      refine fd_xeq98 (a_work := W) (f_pending := p) (n := n) t1 hn (fun m p' hm hN' z => ?_) (fun m p' hm hN' z => ?_) 32 0 rfl 0 (fun d => by rw [b_0]; constructor <;> intro h <;> first | exact absurd h (by decide) | exact absurd h.1 (by omega)) 33 (by omega)
      · refine h 0 _ p' (fd_Nar_tr hN hN') (Or.inr ⟨rfl, fun a ha hPa => ?_⟩)
        have hw := hM.2 a ha hPa _ t1
        have := (hm _).mpr ⟨hw, (hom _ hw).mpr ⟨a, ha, hPa, rfl⟩⟩
        have b := fd_eq0.mp z (a (fd_sp (a_kind, a_relation, a_constant, a_first, a_second, a_size, a_number, a_scope) c j))
        rw [b_and, hw, this] at b
        exact absurd b (by decide)
      · refine ih (j + 1) (by omega) _ p' (fun v hv => ?_) (fd_Nar_tr hN hN') (fd_Mid_1 t1 hM (fun d hd hp => (hm d).mpr ⟨hd, (hom d hd).mpr hp⟩)) (fun i hi d hd => ?_) q (by omega)
        · by_cases e : v = fd_sp (a_kind, a_relation, a_constant, a_first, a_second, a_size, a_number, a_scope) c j
          · rw [e, pk_us]; exact z
          · rw [pk_un e]; exact hWn v hv
        · by_cases e : i = j
          · subst e
            rw [pk_us, b_and, Bool.and_eq_true] at hd
            exact (hom d hd.1).mp ((hm d).mp hd.2).2
          · rw [pk_un (fun x => e (hT.2.2.2 i j (by omega) hjz x))] at hd
            exact hP i (by omega) d hd
    refine pk_le (fd_sz (a_kind, a_relation, a_constant, a_first, a_second, a_size, a_number, a_scope) c) 1 (fun h1 => ⟨33, fin 1 (fun d hd => ?_)⟩) (fun h1 => ?_)
    · have hj0 : j = 0 := by omega
      subst hj0
      have hs1 : fd_sz (a_kind, a_relation, a_constant, a_first, a_second, a_size, a_number, a_scope) c = 1 := by omega
      rw [← fd_Mid_PJ hM, fd_eq_PJ1 hT hWn hs1]
      have ex : ∀ e, bt 1 e = true ↔ e = 0 := fun e => by
        constructor
        · intro q
          have := fd_lt q
          rw [fd_t1 e this] at q; exact decide_eq_true_iff.mp q
        · intro q; rw [q]; decide
      have e4 : (nI d).toInt = (d : Int) := nI_toInt (by have := fd_lt hd; omega)
      have m1 := fd_mb t3 t4 (g := (d : Int)) (by omega) (by have := fd_lt hd; omega)
      have hnu : fd_nu (a_kind, a_relation, a_constant, a_first, a_second, a_size, a_number, a_scope) c 0 = (a_number (16 * c + 0)).toInt := rfl
      have f1 : (a_number (16 * c + 0) * nI d).toInt = fd_nu (a_kind, a_relation, a_constant, a_first, a_second, a_size, a_number, a_scope) c 0 * (d : Int) := by rw [fd_mul (by rw [e4, ← hnu]; omega) (by rw [e4, ← hnu]; omega), e4, ← hnu]
      have f2 : (K - a_number (16 * c + 0) * nI d).toInt = k - fd_nu (a_kind, a_relation, a_constant, a_first, a_second, a_size, a_number, a_scope) c 0 * (d : Int) := by rw [fd_sub (by rw [f1, hK]; omega) (by rw [f1, hK]; omega), f1, hK]
      have z0 : a_number (16 * c + (1 - 0)) * nI 0 = 0 := by rw [nI_0, Int32.mul_zero]
      have z1 : (0 : Int32).toInt = 0 := rfl
      constructor
      · rintro ⟨e, he, hee⟩
        rw [(ex e).mp he, z0, ← Int32.toInt_inj, f2, z1] at hee
        exact ⟨hd, by omega⟩
      · rintro ⟨_, q⟩
        refine ⟨0, (ex 0).mpr rfl, ?_⟩
        rw [z0, ← Int32.toInt_inj, f2, z1]; omega
    · have hs2 : fd_sz (a_kind, a_relation, a_constant, a_first, a_second, a_size, a_number, a_scope) c = 2 := by omega
      obtain ⟨u1, u2, u3, u4⟩ := hT.2.2.1 (1 - j) (by omega)
      have u2' : a_scope (16 * c + (1 - j)) = nI (fd_sp (a_kind, a_relation, a_constant, a_first, a_second, a_size, a_number, a_scope) c (1 - j)) := u2
      have e8 : (nI (fd_sp (a_kind, a_relation, a_constant, a_first, a_second, a_size, a_number, a_scope) c (1 - j))).toNatClampNeg = fd_sp (a_kind, a_relation, a_constant, a_first, a_second, a_size, a_number, a_scope) c (1 - j) := pk_cl _
      rw [u2', e8]
      refine ⟨pk_in (16 * c + (1 - j)) 208 (by omega), ⟨fd_in8 (by omega), nm_e ⟨33, fin _ (fun d hd => ?_)⟩⟩⟩
      rw [← fd_Mid_PJ hM, fd_eq_PJ2 hT hWn hs2 (by omega)]
      constructor
      · rintro ⟨e, he, hee⟩
        exact ⟨hd, e, he, (fd_eqI (A := 0) rfl t3 t4 rfl u3 u4 hK hk (fd_lt hd) (fd_lt he)).mp hee⟩
      · rintro ⟨_, e, he, hee⟩
        exact ⟨e, he, (fd_eqI (A := 0) rfl t3 t4 rfl u3 u4 hK hk (fd_lt hd) (fd_lt he)).mpr hee⟩
theorem fd_xequal {c : Nat} {k : Int} {K : Int32} (hT : fd_Tm n (a_kind, a_relation, a_constant, a_first, a_second, a_size, a_number, a_scope) c) (hn : n ≤ 8) (hc : c < 13) (hz1 : 1 ≤ fd_sz (a_kind, a_relation, a_constant, a_first, a_second, a_size, a_number, a_scope) c) (hz2 : fd_sz (a_kind, a_relation, a_constant, a_first, a_second, a_size, a_number, a_scope) c ≤ 2) (hK : K.toInt = k) (hk : -5000 ≤ k ∧ k ≤ 5000) (hW : fd_NE n a_work)
    (h : ∀ r W' p', fd_Nar n a_watch a_work f_pending W' p' → fd_Rev n a_work (fun a => fd_sum (a_kind, a_relation, a_constant, a_first, a_second, a_size, a_number, a_scope) c a = k) r W' → post r (f_objectiveSlot, f_maxVariables, f_maxConstraints, f_maxDepth, f_variables, f_space, f_failed, f_terms, f_cells, f_constraints, f_level, f_mode, f_found, f_exhausted, f_hasCurrent, f_objective, p', f_matched, f_depth, f_guided, f_bounded, a_dom, a_watch, a_order, a_direction, a_termA, a_termV, a_cellX, a_kind, a_relation, a_constant, a_first, a_second, a_size, a_number, a_scope, a_savedDom, a_savedConstraints, a_decidedVariable, a_decidedValue, a_current, W', a_sums, a_grown, a_image, a_mate, a_parent, a_queue, a_reach, a_frames, a_left)) : wpX_filterEqual post (f_objectiveSlot, f_maxVariables, f_maxConstraints, f_maxDepth, f_variables, f_space, f_failed, f_terms, f_cells, f_constraints, f_level, f_mode, f_found, f_exhausted, f_hasCurrent, f_objective, f_pending, f_matched, f_depth, f_guided, f_bounded, a_dom, a_watch, a_order, a_direction, a_termA, a_termV, a_cellX, a_kind, a_relation, a_constant, a_first, a_second, a_size, a_number, a_scope, a_savedDom, a_savedConstraints, a_decidedVariable, a_decidedValue, a_current, a_work, a_sums, a_grown, a_image, a_mate, a_parent, a_queue, a_reach, a_frames, a_left) (nI c) K := by
  have e1 : nI c * 16 = nI (16 * c) := by
    have e : nI c * 16 = nI (c * 16) := pk_mul c 16
    rw [e, Nat.mul_comm]
  have e2 : (nI c).toNatClampNeg = c := pk_cl c
  have hsz : a_size c = nI (fd_sz (a_kind, a_relation, a_constant, a_first, a_second, a_size, a_number, a_scope) c) := hT.2.1
  refine nm_r e1 ⟨pk_in c 13 hc, ?_⟩
  rw [e2]
  exact nm_r hsz ⟨3, fd_xeq16 hT hn hc hz1 hz2 hK hk hW h (fd_sz (a_kind, a_relation, a_constant, a_first, a_second, a_size, a_number, a_scope) c) 0 (by omega) a_work f_pending hW fd_Nar_rf fd_Mid_rf (fun i hi => absurd hi (by omega)) 3 (by omega)⟩
theorem fd_Rev_01 {W W' : Nat → Int32} {P : (Nat → Nat) → Prop} {r : Int32} (h : fd_Rev n W P r W') : r = 1 ∨ r = 0 := h.elim (fun x => Or.inl x.1) (fun x => Or.inr x.1)
theorem fd_nb01 {r : Int32} (h : r = 1 ∨ r = 0) : narrow .boolean (.int r) = .int r := by
  rcases h with rfl | rfl
  · exact narrow_b1
  · exact narrow_b0
theorem fd_xlinear {c rl : Nat} {k : Int} {R K : Int32} (hT : fd_Tm n (a_kind, a_relation, a_constant, a_first, a_second, a_size, a_number, a_scope) c) (hn : n ≤ 8) (hc : c < 13) (hz1 : 1 ≤ fd_sz (a_kind, a_relation, a_constant, a_first, a_second, a_size, a_number, a_scope) c) (hz : ∀ j, j < fd_sz (a_kind, a_relation, a_constant, a_first, a_second, a_size, a_number, a_scope) c → fd_nu (a_kind, a_relation, a_constant, a_first, a_second, a_size, a_number, a_scope) c j ≠ 0) (hR : R = nI rl) (hrl : rl ≤ 3) (hz2 : rl = 0 → fd_sz (a_kind, a_relation, a_constant, a_first, a_second, a_size, a_number, a_scope) c ≤ 2) (hK : K.toInt = k) (hk : -4097 ≤ k ∧ k ≤ 4097) (hW : fd_NE n a_work)
    (h : ∀ r W' p', fd_Nar n a_watch a_work f_pending W' p' → fd_Rev n a_work (fun a => fd_rel rl (fd_sum (a_kind, a_relation, a_constant, a_first, a_second, a_size, a_number, a_scope) c a) k) r W' → post r (f_objectiveSlot, f_maxVariables, f_maxConstraints, f_maxDepth, f_variables, f_space, f_failed, f_terms, f_cells, f_constraints, f_level, f_mode, f_found, f_exhausted, f_hasCurrent, f_objective, p', f_matched, f_depth, f_guided, f_bounded, a_dom, a_watch, a_order, a_direction, a_termA, a_termV, a_cellX, a_kind, a_relation, a_constant, a_first, a_second, a_size, a_number, a_scope, a_savedDom, a_savedConstraints, a_decidedVariable, a_decidedValue, a_current, W', a_sums, a_grown, a_image, a_mate, a_parent, a_queue, a_reach, a_frames, a_left)) : wpX_filterLinear post (f_objectiveSlot, f_maxVariables, f_maxConstraints, f_maxDepth, f_variables, f_space, f_failed, f_terms, f_cells, f_constraints, f_level, f_mode, f_found, f_exhausted, f_hasCurrent, f_objective, f_pending, f_matched, f_depth, f_guided, f_bounded, a_dom, a_watch, a_order, a_direction, a_termA, a_termV, a_cellX, a_kind, a_relation, a_constant, a_first, a_second, a_size, a_number, a_scope, a_savedDom, a_savedConstraints, a_decidedVariable, a_decidedValue, a_current, a_work, a_sums, a_grown, a_image, a_mate, a_parent, a_queue, a_reach, a_frames, a_left) (nI c) R K := by
  subst hR
  rcases (by omega : rl = 0 ∨ rl = 1 ∨ rl = 2 ∨ rl = 3) with e | e | e | e
  · subst e
    refine br_t (by decide) (fd_xequal hT hn hc hz1 (hz2 rfl) hK (by omega) hW (fun r W' p' hN hR => ⟨fd_nb01 (fd_Rev_01 hR), h r W' p' hN hR⟩))
  · subst e
    refine br_f (by decide) (br_f (by decide) (br_t (by decide) (fd_xnoteq hT hn hc hz1 hz hK (by omega) hW (fun r W' p' hN hR => ⟨fd_nb01 (fd_Rev_01 hR), h r W' p' hN hR⟩))))
  · subst e
    refine br_f (by decide) (br_f (by decide) (br_f (by decide) (br_t (by decide) (fd_xupper (s := 1) hT hn hc (Or.inl rfl) rfl hK (by omega) hW (fun r W' p' hN hR => ⟨fd_nb01 (fd_Rev_01 hR), h r W' p' hN ?_⟩)))))
    have e : (fun a => fd_rel 2 (fd_sum (a_kind, a_relation, a_constant, a_first, a_second, a_size, a_number, a_scope) c a) k) = (fun a => 1 * fd_sum (a_kind, a_relation, a_constant, a_first, a_second, a_size, a_number, a_scope) c a ≤ k) := funext (fun a => by show (_ ≤ _) = _; rw [Int.one_mul])
    rw [e]; exact hR
  · subst e
    have hK' : (-K).toInt = -k := by rw [fd_neg (by omega), hK]
    refine br_f (by decide) (br_f (by decide) (br_f (by decide) (br_f (by decide) (br_t (by decide) (fd_xupper (s := -1) hT hn hc (Or.inr rfl) rfl hK' (by omega) hW (fun r W' p' hN hR => ⟨fd_nb01 (fd_Rev_01 hR), h r W' p' hN ?_⟩))))))
    have e : (fun a => fd_rel 3 (fd_sum (a_kind, a_relation, a_constant, a_first, a_second, a_size, a_number, a_scope) c a) k) = (fun a => -1 * fd_sum (a_kind, a_relation, a_constant, a_first, a_second, a_size, a_number, a_scope) c a ≤ -k) := funext (fun a => propext (by show k ≤ _ ↔ _; omega))
    rw [e]; exact hR
end
end
section
/-! ===== X: grow, reachable, alwaysHolds ===== -/
/-- the first M entries of S are just the numbers with Z -/
def fd_SS (S : Nat → Int32) (M : Nat) (Z : Int → Prop) : Prop := ∀ z, Z z ↔ ∃ i, i < M ∧ (S i).toInt = z
theorem fd_SS_c {S T : Nat → Int32} {M : Nat} {Z : Int → Prop} (h : fd_SS S M Z) (e : ∀ i, i < M → T i = S i) : fd_SS T M Z := fun z => by
  rw [h z]
  exact ⟨fun ⟨i, hi, q⟩ => ⟨i, hi, by rw [e i hi]; exact q⟩, fun ⟨i, hi, q⟩ => ⟨i, hi, by rw [← e i hi]; exact q⟩⟩
section
variable {f_objectiveSlot f_maxVariables f_maxConstraints f_maxDepth f_variables f_space f_failed f_terms f_cells f_constraints f_level f_mode f_found f_exhausted f_hasCurrent f_objective f_pending : Int32} {f_matched : Int64} {f_depth f_guided f_bounded : Int32} {a_dom a_watch a_order a_direction a_termA a_termV a_cellX a_kind a_relation a_constant a_first a_second a_size a_number a_scope a_savedDom a_savedConstraints a_decidedVariable a_decidedValue a_current a_work a_sums a_grown : Nat → Int32} {a_image : Nat → Int64} {a_mate a_parent a_queue a_reach a_frames a_left : Nat → Int32} {post : Int32 → SX → Prop} {n : Nat}
theorem fd_xgrow76 {m : Nat} (hm : m ≤ 1024) {S0 : Nat → Int32} (h : ∀ S, (∀ i, i < m → S i = a_grown i) → post (nI m) (f_objectiveSlot, f_maxVariables, f_maxConstraints, f_maxDepth, f_variables, f_space, f_failed, f_terms, f_cells, f_constraints, f_level, f_mode, f_found, f_exhausted, f_hasCurrent, f_objective, f_pending, f_matched, f_depth, f_guided, f_bounded, a_dom, a_watch, a_order, a_direction, a_termA, a_termV, a_cellX, a_kind, a_relation, a_constant, a_first, a_second, a_size, a_number, a_scope, a_savedDom, a_savedConstraints, a_decidedVariable, a_decidedValue, a_current, a_work, S, a_grown, a_image, a_mate, a_parent, a_queue, a_reach, a_frames, a_left)) : ∀ t j, j + t = m → ∀ S, (∀ i, i < j → S i = a_grown i) → ∀ q, t < q → wX_grow_76 post (nI m) f_objectiveSlot f_maxVariables f_maxConstraints f_maxDepth f_variables f_space f_failed f_terms f_cells f_constraints f_level f_mode f_found f_exhausted f_hasCurrent f_objective f_pending f_matched f_depth f_guided f_bounded q (nI j) a_dom a_watch a_order a_direction a_termA a_termV a_cellX a_kind a_relation a_constant a_first a_second a_size a_number a_scope a_savedDom a_savedConstraints a_decidedVariable a_decidedValue a_current a_work S a_grown a_image a_mate a_parent a_queue a_reach a_frames a_left := by
  intro t
  induction t with
  | zero =>
    intro j hj S hS q hq
    obtain ⟨q, rfl⟩ : ∃ q', q = q' + 1 := ⟨q - 1, by omega⟩
    exact pk_le m j (fun _ => h S (fun i hi => hS i (by omega))) (fun c => absurd c (by omega))
  | succ t ih =>
    intro j hj S hS q hq
    obtain ⟨q, rfl⟩ : ∃ q', q = q' + 1 := ⟨q - 1, by omega⟩
    refine pk_le m j (fun c => absurd c (by omega)) (fun _ => ?_)
    have e : (nI j).toNatClampNeg = j := pk_cl j
    rw [e]
    refine ⟨pk_in j 1024 (by omega), pk_in j 1024 (by omega), nm_e (nm_r (nI_1 j) (ih (j + 1) (by omega) _ (fun i hi => ?_) q (by omega)))⟩
    by_cases c : i = j
    · rw [c, pk_us]
    · rw [pk_un c]; exact hS i (by omega)
theorem fd_xgrow25 {J : Int32 → Int32 → (Nat → Int32) → (Nat → Int32) → (Nat → Int32) → (Nat → Int32) → (Nat → Int32) → (Nat → Int32) → (Nat → Int32) → (Nat → Int32) → (Nat → Int32) → (Nat → Int32) → (Nat → Int32) → (Nat → Int32) → (Nat → Int32) → (Nat → Int32) → (Nat → Int32) → (Nat → Int32) → (Nat → Int32) → (Nat → Int32) → (Nat → Int32) → (Nat → Int32) → (Nat → Int32) → (Nat → Int32) → (Nat → Int32) → (Nat → Int64) → (Nat → Int32) → (Nat → Int32) → (Nat → Int32) → (Nat → Int32) → (Nat → Int32) → (Nat → Int32) → Prop} {x1 x2 : Int32} {M m0 i : Nat} (hM : m0 + M ≤ 1024) (g0 : Nat → Int32)
    (h : ∀ g, (∀ j, j < m0 → g j = g0 j) → (∀ j, j < M → g (m0 + j) = a_sums j + x1 * nI i) → J (nI (m0 + M)) (nI (i + 1)) a_dom a_watch a_order a_direction a_termA a_termV a_cellX a_kind a_relation a_constant a_first a_second a_size a_number a_scope a_savedDom a_savedConstraints a_decidedVariable a_decidedValue a_current a_work a_sums g a_image a_mate a_parent a_queue a_reach a_frames a_left) :
    ∀ t s, s + t = M → ∀ g, (∀ j, j < m0 → g j = g0 j) → (∀ j, j < s → g (m0 + j) = a_sums j + x1 * nI i) → ∀ q, t < q → wX_grow_25 post J x1 x2 (nI M) (nI i) f_objectiveSlot f_maxVariables f_maxConstraints f_maxDepth f_variables f_space f_failed f_terms f_cells f_constraints f_level f_mode f_found f_exhausted f_hasCurrent f_objective f_pending f_matched f_depth f_guided f_bounded q (nI (m0 + s)) (nI s) a_dom a_watch a_order a_direction a_termA a_termV a_cellX a_kind a_relation a_constant a_first a_second a_size a_number a_scope a_savedDom a_savedConstraints a_decidedVariable a_decidedValue a_current a_work a_sums g a_image a_mate a_parent a_queue a_reach a_frames a_left := by
  intro t
  induction t with
  | zero =>
    intro s hs g h1 h2 q hq
    obtain ⟨q, rfl⟩ : ∃ q', q = q' + 1 := ⟨q - 1, by omega⟩
    have e : s = M := by omega
    subst e
    exact pk_le s s (fun _ => nm_r (nI_1 i) (h g h1 h2)) (fun c => absurd c (by omega))
  | succ t ih =>
    intro s hs g h1 h2 q hq
    obtain ⟨q, rfl⟩ : ∃ q', q = q' + 1 := ⟨q - 1, by omega⟩
    refine pk_le M s (fun c => absurd c (by omega)) (fun _ => ?_)
    refine pk_le 1024 (m0 + s) (fun c => absurd c (by omega)) (fun _ => ?_)
    have e : (nI s).toNatClampNeg = s := pk_cl s
    have e2 : (nI (m0 + s)).toNatClampNeg = m0 + s := pk_cl _
    rw [e, e2]
    refine ⟨pk_in s 1024 (by omega), pk_in (m0 + s) 1024 (by omega), nm_e (nm_r (nI_1 _) (nm_r (nI_1 s) (ih (s + 1) (by omega) _ (fun j hj => ?_) (fun j hj => ?_) q (by omega))))⟩
    · rw [pk_un (by omega)]; exact h1 j hj
    · by_cases c : j = s
      · rw [c, pk_us]
      · rw [pk_un (by omega)]; exact h2 j (by omega)
theorem fd_xgrow6 {x1 mask : Int32} {A : Int} {M : Nat} {Z : Int → Prop} (hA : x1.toInt = A) (hA1 : -8 ≤ A) (hA2 : A ≤ 8) (hM0 : M ≤ 1024) (hM : M * fd_pc mask ≤ 1024) (hS : fd_SS a_sums M Z) (hZ : ∀ z, Z z → -1984 ≤ z ∧ z ≤ 1984)
    (h : ∀ S g, fd_SS S (M * fd_pc mask) (fun z => ∃ y d, Z y ∧ bt mask d = true ∧ z = y + A * ((d : Nat) : Int)) → post (nI (M * fd_pc mask)) (f_objectiveSlot, f_maxVariables, f_maxConstraints, f_maxDepth, f_variables, f_space, f_failed, f_terms, f_cells, f_constraints, f_level, f_mode, f_found, f_exhausted, f_hasCurrent, f_objective, f_pending, f_matched, f_depth, f_guided, f_bounded, a_dom, a_watch, a_order, a_direction, a_termA, a_termV, a_cellX, a_kind, a_relation, a_constant, a_first, a_second, a_size, a_number, a_scope, a_savedDom, a_savedConstraints, a_decidedVariable, a_decidedValue, a_current, a_work, S, g, a_image, a_mate, a_parent, a_queue, a_reach, a_frames, a_left)) :
    ∀ t i, i + t = 32 → ∀ g, fd_SS g (M * fd_cn (bt mask) i) (fun z => ∃ y d, Z y ∧ (d < i ∧ bt mask d = true) ∧ z = y + A * ((d : Nat) : Int)) → ∀ q, t < q → wX_grow_6 post x1 mask (nI M) f_objectiveSlot f_maxVariables f_maxConstraints f_maxDepth f_variables f_space f_failed f_terms f_cells f_constraints f_level f_mode f_found f_exhausted f_hasCurrent f_objective f_pending f_matched f_depth f_guided f_bounded q (nI (M * fd_cn (bt mask) i)) (nI i) a_dom a_watch a_order a_direction a_termA a_termV a_cellX a_kind a_relation a_constant a_first a_second a_size a_number a_scope a_savedDom a_savedConstraints a_decidedVariable a_decidedValue a_current a_work a_sums g a_image a_mate a_parent a_queue a_reach a_frames a_left := by
  intro t
  induction t with
  | zero =>
    intro i hi g hg q hq
    obtain ⟨q, rfl⟩ : ∃ q', q = q' + 1 := ⟨q - 1, by omega⟩
    have e : i = 32 := by omega
    subst e
    refine pk_le 32 32 (fun _ => ⟨M * fd_pc mask + 1, ?_⟩) (fun c => absurd c (by omega))
    refine fd_xgrow76 (a_grown := g) (m := M * fd_pc mask) (S0 := a_sums) hM (fun S hSg => h S g ?_) (M * fd_pc mask) 0 (by omega) a_sums (fun i hi => absurd hi (by omega)) _ (by omega)
    refine fd_SS_c (S := g) (fun z => Iff.trans ?_ (hg z)) hSg
    constructor
    · rintro ⟨y, d, a, b, c⟩; exact ⟨y, d, a, ⟨fd_lt b, b⟩, c⟩
    · rintro ⟨y, d, a, b, c⟩; exact ⟨y, d, a, b.2, c⟩
  | succ t ih =>
    intro i hi g hg q hq
    obtain ⟨q, rfl⟩ : ∃ q', q = q' + 1 := ⟨q - 1, by omega⟩
    refine pk_le 32 i (fun c => absurd c (by omega)) (fun _ => ?_)
    by_cases hb : bt mask i = true
    · refine br_f ((fd_nbit mask (by omega)).mpr hb) ⟨M + 1, ?_⟩
      have c1 : fd_cn (bt mask) (i + 1) ≤ fd_pc mask := fd_cn_step _ (by omega)
      have c2 : M * fd_cn (bt mask) (i + 1) = M * fd_cn (bt mask) i + M := by rw [fd_cn_t hb, Nat.mul_succ]
      have c3 : M * fd_cn (bt mask) (i + 1) ≤ M * fd_pc mask := Nat.mul_le_mul_left M c1
      refine fd_xgrow25 (M := M) (m0 := M * fd_cn (bt mask) i) (i := i) (by omega) g (fun g' h1 h2 => ?_) M 0 (by omega) g (fun _ _ => rfl) (fun j hj => absurd hj (by omega)) _ (by omega)
      rw [← c2]
      refine ih (i + 1) (by omega) g' (fun z => ?_) q (by omega)
      have e4 : (nI i).toInt = (i : Int) := nI_toInt (by omega)
      have mb := fd_mb hA1 hA2 (g := (i : Int)) (by omega) (by omega)
      have e5 : (x1 * nI i).toInt = A * (i : Int) := by
        rw [fd_mul (by rw [e4, hA]; omega) (by rw [e4, hA]; omega), e4, hA]
      have e6 : ∀ j, j < M → (a_sums j + x1 * nI i).toInt = (a_sums j).toInt + A * (i : Int) := fun j hj => by
        have := hZ _ ((hS (a_sums j).toInt).mpr ⟨j, hj, rfl⟩)
        rw [fd_add (by rw [e5]; omega) (by rw [e5]; omega), e5]
      rw [c2]
      constructor
      · rintro ⟨y, d, a, ⟨b1, b2⟩, c⟩
        by_cases q : d = i
        · subst q
          obtain ⟨j, hj, ej⟩ := (hS y).mp a
          refine ⟨M * fd_cn (bt mask) d + j, by omega, ?_⟩
          rw [h2 j hj, e6 j hj, ej, c]
        · obtain ⟨j, hj, ej⟩ := (hg z).mp ⟨y, d, a, ⟨by omega, b2⟩, c⟩
          exact ⟨j, by omega, by rw [h1 j hj]; exact ej⟩
      · rintro ⟨j, hj, ej⟩
        by_cases q : j < M * fd_cn (bt mask) i
        · rw [h1 j q] at ej
          obtain ⟨y, d, a, b, c⟩ := (hg z).mpr ⟨j, q, ej⟩
          exact ⟨y, d, a, ⟨by omega, b.2⟩, c⟩
        · obtain ⟨j', rfl⟩ : ∃ j', j = M * fd_cn (bt mask) i + j' := ⟨j - M * fd_cn (bt mask) i, by omega⟩
          rw [h2 j' (by omega), e6 j' (by omega)] at ej
          exact ⟨_, i, (hS _).mpr ⟨j', by omega, rfl⟩, ⟨by omega, hb⟩, ej.symm⟩
    · have hb' : bt mask i = false := by simpa using hb
      refine br_t ((fd_bit mask (by omega)).mpr hb') (nm_r (nI_1 i) ?_)
      have := ih (i + 1) (by omega) g (fun z => ?_) q (by omega)
      · rw [fd_cn_f hb'] at this; exact this
      · rw [fd_cn_f hb', ← hg z]
        constructor
        · rintro ⟨y, d, a, ⟨b1, b2⟩, c⟩
          by_cases q : d = i
          · subst q; exact absurd b2 hb
          · exact ⟨y, d, a, ⟨by omega, b2⟩, c⟩
        · rintro ⟨y, d, a, ⟨b1, b2⟩, c⟩; exact ⟨y, d, a, ⟨by omega, b2⟩, c⟩
theorem fd_xgrow {x1 mask : Int32} {A : Int} {M : Nat} {Z : Int → Prop} (hA : x1.toInt = A) (hA1 : -8 ≤ A) (hA2 : A ≤ 8) (hM0 : M ≤ 1024) (hM : M * fd_pc mask ≤ 1024) (hS : fd_SS a_sums M Z) (hZ : ∀ z, Z z → -1984 ≤ z ∧ z ≤ 1984)
    (h : ∀ S g, fd_SS S (M * fd_pc mask) (fun z => ∃ y d, Z y ∧ bt mask d = true ∧ z = y + A * ((d : Nat) : Int)) → post (nI (M * fd_pc mask)) (f_objectiveSlot, f_maxVariables, f_maxConstraints, f_maxDepth, f_variables, f_space, f_failed, f_terms, f_cells, f_constraints, f_level, f_mode, f_found, f_exhausted, f_hasCurrent, f_objective, f_pending, f_matched, f_depth, f_guided, f_bounded, a_dom, a_watch, a_order, a_direction, a_termA, a_termV, a_cellX, a_kind, a_relation, a_constant, a_first, a_second, a_size, a_number, a_scope, a_savedDom, a_savedConstraints, a_decidedVariable, a_decidedValue, a_current, a_work, S, g, a_image, a_mate, a_parent, a_queue, a_reach, a_frames, a_left)) : wpX_grow post (f_objectiveSlot, f_maxVariables, f_maxConstraints, f_maxDepth, f_variables, f_space, f_failed, f_terms, f_cells, f_constraints, f_level, f_mode, f_found, f_exhausted, f_hasCurrent, f_objective, f_pending, f_matched, f_depth, f_guided, f_bounded, a_dom, a_watch, a_order, a_direction, a_termA, a_termV, a_cellX, a_kind, a_relation, a_constant, a_first, a_second, a_size, a_number, a_scope, a_savedDom, a_savedConstraints, a_decidedVariable, a_decidedValue, a_current, a_work, a_sums, a_grown, a_image, a_mate, a_parent, a_queue, a_reach, a_frames, a_left) x1 mask (nI M) := by
  refine ⟨33, ?_⟩
  have := fd_xgrow6 hA hA1 hA2 hM0 hM hS hZ h 32 0 rfl a_grown (fun z => ?_) 33 (by omega)
  · have e : M * fd_cn (bt mask) 0 = 0 := Nat.mul_zero _
    rw [e] at this
    exact this
  · constructor
    · rintro ⟨y, d, _, ⟨b, _⟩, _⟩; omega
    · rintro ⟨i, hi, _⟩; have e : M * fd_cn (bt mask) 0 = 0 := Nat.mul_zero _
      omega
/-- the sums of the first j terms -/
def fd_Z (n : Nat) (G : fd_FC) (c : Nat) (W : Nat → Int32) (j : Nat) (z : Int) : Prop := ∃ a, fd_In n W a ∧ z = fd_sm (fun i => fd_nu G c i * (a (fd_sp G c i) : Int)) j
theorem fd_Z_bd {G : fd_FC} {c : Nat} {W : Nat → Int32} (hT : fd_Tm n G c) {j : Nat} (hj : j ≤ fd_sz G c) {z : Int} (h : fd_Z n G c W j z) : -1984 ≤ z ∧ z ≤ 1984 := by
  obtain ⟨a, ha, rfl⟩ := h
  refine fd_sm_pbd hT.1 hj (fun i hi => ?_)
  obtain ⟨p, _, q, r⟩ := hT.2.2.1 i hi
  have := fd_lt (ha _ p)
  exact fd_mb q r (by omega) (by omega)
theorem fd_Z_s {G : fd_FC} {c : Nat} {W : Nat → Int32} (hT : fd_Tm n G c) {j : Nat} (hj : j < fd_sz G c) {z : Int} : fd_Z n G c W (j + 1) z ↔ ∃ y d, fd_Z n G c W j y ∧ bt (W (fd_sp G c j)) d = true ∧ z = y + fd_nu G c j * ((d : Nat) : Int) := by
  constructor
  · rintro ⟨a, ha, rfl⟩
    exact ⟨_, a (fd_sp G c j), ⟨a, ha, rfl⟩, ha _ (hT.2.2.1 j hj).1, fd_sm_s _ _⟩
  · rintro ⟨y, d, ⟨a, ha, rfl⟩, hd, rfl⟩
    refine ⟨_, fd_In_up ha hd, ?_⟩
    rw [fd_sm_s, fd_up_s]
    congr 1
    exact fd_sm_congr (fun i hi => by
      show _ * _ = _ * _
      rw [fd_up_n a (fun x => by have := hT.2.2.2 i j (by omega) hj x; omega)])
theorem fd_xreach117 {c m : Nat} {k : Int} {K x6 mask : Int32} {A : Int} {Z : Int → Prop} (hm : m ≤ 1024) (hA : x6.toInt = A) (hA1 : -8 ≤ A) (hA2 : A ≤ 8) (hK : K.toInt = k) (hk : -5000 ≤ k ∧ k ≤ 5000) (hS : fd_SS a_sums m Z) (hZ : ∀ z, Z z → -1984 ≤ z ∧ z ≤ 1984)
    (h1 : (∃ y d, Z y ∧ bt mask d = true ∧ k = y + A * ((d : Nat) : Int)) → post 1 (f_objectiveSlot, f_maxVariables, f_maxConstraints, f_maxDepth, f_variables, f_space, f_failed, f_terms, f_cells, f_constraints, f_level, f_mode, f_found, f_exhausted, f_hasCurrent, f_objective, f_pending, f_matched, f_depth, f_guided, f_bounded, a_dom, a_watch, a_order, a_direction, a_termA, a_termV, a_cellX, a_kind, a_relation, a_constant, a_first, a_second, a_size, a_number, a_scope, a_savedDom, a_savedConstraints, a_decidedVariable, a_decidedValue, a_current, a_work, a_sums, a_grown, a_image, a_mate, a_parent, a_queue, a_reach, a_frames, a_left)) (h0 : (∀ y d, Z y → bt mask d = true → k ≠ y + A * ((d : Nat) : Int)) → post 0 (f_objectiveSlot, f_maxVariables, f_maxConstraints, f_maxDepth, f_variables, f_space, f_failed, f_terms, f_cells, f_constraints, f_level, f_mode, f_found, f_exhausted, f_hasCurrent, f_objective, f_pending, f_matched, f_depth, f_guided, f_bounded, a_dom, a_watch, a_order, a_direction, a_termA, a_termV, a_cellX, a_kind, a_relation, a_constant, a_first, a_second, a_size, a_number, a_scope, a_savedDom, a_savedConstraints, a_decidedVariable, a_decidedValue, a_current, a_work, a_sums, a_grown, a_image, a_mate, a_parent, a_queue, a_reach, a_frames, a_left)) :
    ∀ t s, s + t = m → (∀ i, i < s → ∀ d, bt mask d = true → k ≠ (a_sums i).toInt + A * ((d : Nat) : Int)) → ∀ q, t < q → wX_reachable_117 post K (nI m) x6 mask f_objectiveSlot f_maxVariables f_maxConstraints f_maxDepth f_variables f_space f_failed f_terms f_cells f_constraints f_level f_mode f_found f_exhausted f_hasCurrent f_objective f_pending f_matched f_depth f_guided f_bounded a_dom a_watch a_order a_direction a_termA a_termV a_cellX a_kind a_relation a_constant a_first a_second a_size a_number a_scope a_savedDom a_savedConstraints a_decidedVariable a_decidedValue a_current a_work a_sums a_grown a_image a_mate a_parent a_queue a_reach a_frames a_left q (nI s) := by
  intro t
  induction t with
  | zero =>
    intro s hs hno q hq
    obtain ⟨q, rfl⟩ : ∃ q', q = q' + 1 := ⟨q - 1, by omega⟩
    refine pk_le m s (fun _ => h0 (fun y d hy hd => ?_)) (fun c => absurd c (by omega))
    obtain ⟨i, hi, e⟩ := (hS y).mp hy
    rw [← e]; exact hno i (by omega) d hd
  | succ t ih =>
    intro s hs hno q hq
    obtain ⟨q, rfl⟩ : ∃ q', q = q' + 1 := ⟨q - 1, by omega⟩
    refine pk_le m s (fun c => absurd c (by omega)) (fun _ => ?_)
    have e : (nI s).toNatClampNeg = s := pk_cl s
    have hz := hZ _ ((hS (a_sums s).toInt).mpr ⟨s, by omega, rfl⟩)
    have eI : ∀ d, d < 32 → (x6 * nI d = K - a_sums s ↔ k = (a_sums s).toInt + A * (d : Int)) := by
      intro d hd
      have e4 : (nI d).toInt = (d : Int) := nI_toInt (by omega)
      have mb := fd_mb hA1 hA2 (g := (d : Int)) (by omega) (by omega)
      have e5 : (x6 * nI d).toInt = A * (d : Int) := by
        rw [fd_mul (by rw [e4, hA]; omega) (by rw [e4, hA]; omega), e4, hA]
      rw [← Int32.toInt_inj, e5, fd_sub (by rw [hK]; omega) (by rw [hK]; omega), hK]
      omega
    rw [e]
    refine ⟨pk_in s 1024 (by omega), fd_xhits (fun d hd he => ?_) (fun hn => ?_)⟩
    · exact br_f (by decide) (h1 ⟨_, d, (hS _).mpr ⟨s, by omega, rfl⟩, hd, (eI d (fd_lt hd)).mp he⟩)
    · refine br_t rfl (nm_r (nI_1 s) (ih (s + 1) (by omega) (fun i hi d hd => ?_) q (by omega)))
      by_cases c : i = s
      · subst c; exact fun x => hn d hd ((eI d (fd_lt hd)).mpr x)
      · exact hno i (by omega) d hd
theorem fd_xreach43 {c : Nat} {k : Int} {K : Int32} (hT : fd_Tm n (a_kind, a_relation, a_constant, a_first, a_second, a_size, a_number, a_scope) c) (hn : n ≤ 8) (hc : c < 13) (hz1 : 1 ≤ fd_sz (a_kind, a_relation, a_constant, a_first, a_second, a_size, a_number, a_scope) c) (hK : K.toInt = k) (hk : -5000 ≤ k ∧ k ≤ 5000) (hW : fd_NE n a_work) (hsp : fd_tot n a_work ≤ 1024)
    (h : ∀ r S g, ((r = 1 ∧ ∃ a, fd_In n a_work a ∧ fd_sum (a_kind, a_relation, a_constant, a_first, a_second, a_size, a_number, a_scope) c a = k) ∨ (r = 0 ∧ ∀ a, fd_In n a_work a → fd_sum (a_kind, a_relation, a_constant, a_first, a_second, a_size, a_number, a_scope) c a ≠ k)) → post r (f_objectiveSlot, f_maxVariables, f_maxConstraints, f_maxDepth, f_variables, f_space, f_failed, f_terms, f_cells, f_constraints, f_level, f_mode, f_found, f_exhausted, f_hasCurrent, f_objective, f_pending, f_matched, f_depth, f_guided, f_bounded, a_dom, a_watch, a_order, a_direction, a_termA, a_termV, a_cellX, a_kind, a_relation, a_constant, a_first, a_second, a_size, a_number, a_scope, a_savedDom, a_savedConstraints, a_decidedVariable, a_decidedValue, a_current, a_work, S, g, a_image, a_mate, a_parent, a_queue, a_reach, a_frames, a_left)) :
    ∀ t j, j + t + 1 = fd_sz (a_kind, a_relation, a_constant, a_first, a_second, a_size, a_number, a_scope) c → ∀ S g, fd_SS S (fd_pr (fun i => fd_pc (a_work (fd_sp (a_kind, a_relation, a_constant, a_first, a_second, a_size, a_number, a_scope) c i))) j) (fd_Z n (a_kind, a_relation, a_constant, a_first, a_second, a_size, a_number, a_scope) c a_work j) → ∀ q, t < q → wX_reachable_43 post K (nI (16 * c)) (nI (fd_sz (a_kind, a_relation, a_constant, a_first, a_second, a_size, a_number, a_scope) c - 1)) q (nI (fd_pr (fun i => fd_pc (a_work (fd_sp (a_kind, a_relation, a_constant, a_first, a_second, a_size, a_number, a_scope) c i))) j)) (nI j) f_objectiveSlot f_maxVariables f_maxConstraints f_maxDepth f_variables f_space f_failed f_terms f_cells f_constraints f_level f_mode f_found f_exhausted f_hasCurrent f_objective f_pending f_matched f_depth f_guided f_bounded a_dom a_watch a_order a_direction a_termA a_termV a_cellX a_kind a_relation a_constant a_first a_second a_size a_number a_scope a_savedDom a_savedConstraints a_decidedVariable a_decidedValue a_current a_work S g a_image a_mate a_parent a_queue a_reach a_frames a_left := by
  have hpr : ∀ j, j ≤ fd_sz (a_kind, a_relation, a_constant, a_first, a_second, a_size, a_number, a_scope) c → fd_pr (fun i => fd_pc (a_work (fd_sp (a_kind, a_relation, a_constant, a_first, a_second, a_size, a_number, a_scope) c i))) j ≤ 1024 := fun j hj =>
    Nat.le_trans (fd_pr_sle (fun v => fd_pc (a_work v)) (fd_sp (a_kind, a_relation, a_constant, a_first, a_second, a_size, a_number, a_scope) c) n j (fun v hv => fd_pc_pos (hW v hv)) (fun i hi => (hT.2.2.1 i (by omega)).1) (fun i i' hi hi' => hT.2.2.2 i i' (by omega) (by omega))) hsp
  have h8 := hT.1
  intro t
  induction t with
  | zero =>
    intro j hj S g hS q hq
    obtain ⟨q, rfl⟩ : ∃ q', q = q' + 1 := ⟨q - 1, by omega⟩
    have ej : fd_sz (a_kind, a_relation, a_constant, a_first, a_second, a_size, a_number, a_scope) c - 1 = j := by omega
    rw [ej]
    refine pk_le j j (fun _ => ?_) (fun c => absurd c (by omega))
    obtain ⟨t1, t2, t3, t4⟩ := hT.2.2.1 j (by omega)
    have t2' : a_scope (16 * c + j) = nI (fd_sp (a_kind, a_relation, a_constant, a_first, a_second, a_size, a_number, a_scope) c j) := t2
    have e3 : (nI (16 * c + j)).toNatClampNeg = 16 * c + j := pk_cl _
    have e5 : (nI (fd_sp (a_kind, a_relation, a_constant, a_first, a_second, a_size, a_number, a_scope) c j)).toNatClampNeg = fd_sp (a_kind, a_relation, a_constant, a_first, a_second, a_size, a_number, a_scope) c j := pk_cl _
    rw [nI_add, e3, t2', e5]
    refine ⟨pk_in (16 * c + j) 208 (by omega), nm_e ⟨pk_in (16 * c + j) 208 (by omega), fd_in8 (by omega), nm_e ⟨_, fd_xreach117 (c := c) (a_sums := S) (hpr j (by omega)) (A := fd_nu (a_kind, a_relation, a_constant, a_first, a_second, a_size, a_number, a_scope) c j) rfl t3 t4 hK hk hS (fun z hz => fd_Z_bd hT (by omega) hz) (fun hx => h 1 S g (Or.inl ⟨rfl, ?_⟩)) (fun hx => h 0 S g (Or.inr ⟨rfl, fun a ha e => ?_⟩)) _ 0 (Nat.zero_add _) (fun i hi => absurd hi (by omega)) _ (Nat.lt_succ_self _)⟩⟩⟩
    · obtain ⟨a, ha, e⟩ := (fd_Z_s hT (by omega)).mpr hx
      refine ⟨a, ha, ?_⟩
      unfold fd_sum
      rw [e]; congr 1; omega
    · refine hx _ (a (fd_sp (a_kind, a_relation, a_constant, a_first, a_second, a_size, a_number, a_scope) c j)) ⟨a, ha, rfl⟩ (ha _ t1) ?_
      rw [← e]
      unfold fd_sum
      have e6 : fd_sz (a_kind, a_relation, a_constant, a_first, a_second, a_size, a_number, a_scope) c = j + 1 := by omega
      rw [e6, fd_sm_s]
  | succ t ih =>
    intro j hj S g hS q hq
    obtain ⟨q, rfl⟩ : ∃ q', q = q' + 1 := ⟨q - 1, by omega⟩
    refine pk_le (fd_sz (a_kind, a_relation, a_constant, a_first, a_second, a_size, a_number, a_scope) c - 1) j (fun c => absurd c (by omega)) (fun _ => ?_)
    obtain ⟨t1, t2, t3, t4⟩ := hT.2.2.1 j (by omega)
    have t2' : a_scope (16 * c + j) = nI (fd_sp (a_kind, a_relation, a_constant, a_first, a_second, a_size, a_number, a_scope) c j) := t2
    have e3 : (nI (16 * c + j)).toNatClampNeg = 16 * c + j := pk_cl _
    have e5 : (nI (fd_sp (a_kind, a_relation, a_constant, a_first, a_second, a_size, a_number, a_scope) c j)).toNatClampNeg = fd_sp (a_kind, a_relation, a_constant, a_first, a_second, a_size, a_number, a_scope) c j := pk_cl _
    rw [nI_add, e3, t2', e5]
    refine ⟨pk_in (16 * c + j) 208 (by omega), pk_in (16 * c + j) 208 (by omega), fd_in8 (by omega), fd_xgrow (a_sums := S) (A := fd_nu (a_kind, a_relation, a_constant, a_first, a_second, a_size, a_number, a_scope) c j) rfl t3 t4 (hpr j (by omega)) (hpr (j + 1) (by omega)) hS (fun z hz => fd_Z_bd hT (by omega) hz) (fun S' g' hS' => ?_)⟩
    refine nm_r (nI_1 j) (ih (j + 1) (by omega) S' g' (fun z => ?_) q (by omega))
    rw [fd_Z_s hT (by omega)]
    exact hS' z
theorem fd_xreach {c : Nat} {k : Int} {K : Int32} (hT : fd_Tm n (a_kind, a_relation, a_constant, a_first, a_second, a_size, a_number, a_scope) c) (hn : n ≤ 8) (hc : c < 13) (hz1 : 1 ≤ fd_sz (a_kind, a_relation, a_constant, a_first, a_second, a_size, a_number, a_scope) c) (hK : K.toInt = k) (hk : -5000 ≤ k ∧ k ≤ 5000) (hW : fd_NE n a_work) (hsp : fd_tot n a_work ≤ 1024)
    (h : ∀ r S g, ((r = 1 ∧ ∃ a, fd_In n a_work a ∧ fd_sum (a_kind, a_relation, a_constant, a_first, a_second, a_size, a_number, a_scope) c a = k) ∨ (r = 0 ∧ ∀ a, fd_In n a_work a → fd_sum (a_kind, a_relation, a_constant, a_first, a_second, a_size, a_number, a_scope) c a ≠ k)) → post r (f_objectiveSlot, f_maxVariables, f_maxConstraints, f_maxDepth, f_variables, f_space, f_failed, f_terms, f_cells, f_constraints, f_level, f_mode, f_found, f_exhausted, f_hasCurrent, f_objective, f_pending, f_matched, f_depth, f_guided, f_bounded, a_dom, a_watch, a_order, a_direction, a_termA, a_termV, a_cellX, a_kind, a_relation, a_constant, a_first, a_second, a_size, a_number, a_scope, a_savedDom, a_savedConstraints, a_decidedVariable, a_decidedValue, a_current, a_work, S, g, a_image, a_mate, a_parent, a_queue, a_reach, a_frames, a_left)) : wpX_reachable post (f_objectiveSlot, f_maxVariables, f_maxConstraints, f_maxDepth, f_variables, f_space, f_failed, f_terms, f_cells, f_constraints, f_level, f_mode, f_found, f_exhausted, f_hasCurrent, f_objective, f_pending, f_matched, f_depth, f_guided, f_bounded, a_dom, a_watch, a_order, a_direction, a_termA, a_termV, a_cellX, a_kind, a_relation, a_constant, a_first, a_second, a_size, a_number, a_scope, a_savedDom, a_savedConstraints, a_decidedVariable, a_decidedValue, a_current, a_work, a_sums, a_grown, a_image, a_mate, a_parent, a_queue, a_reach, a_frames, a_left) (nI c) K := by
  have e1 : nI c * 16 = nI (16 * c) := by
    have e : nI c * 16 = nI (c * 16) := pk_mul c 16
    rw [e, Nat.mul_comm]
  have e2 : (nI c).toNatClampNeg = c := pk_cl c
  have hsz : a_size c = nI (fd_sz (a_kind, a_relation, a_constant, a_first, a_second, a_size, a_number, a_scope) c) := hT.2.1
  have h8 := hT.1
  have e3 : nI (fd_sz (a_kind, a_relation, a_constant, a_first, a_second, a_size, a_number, a_scope) c) - 1 = nI (fd_sz (a_kind, a_relation, a_constant, a_first, a_second, a_size, a_number, a_scope) c - 1) := pk_sub (b := 1) hz1
  refine nm_r e1 ⟨pk_in c 13 hc, ?_⟩
  rw [e2, hsz]
  refine nm_r e3 (br_t (nI_pos' (by omega)) (nm_e ⟨fd_sz (a_kind, a_relation, a_constant, a_first, a_second, a_size, a_number, a_scope) c, ?_⟩))
  refine fd_xreach43 hT hn hc hz1 hK hk hW hsp h (fd_sz (a_kind, a_relation, a_constant, a_first, a_second, a_size, a_number, a_scope) c - 1) 0 (by omega) _ a_grown (fun z => ?_) _ (by omega)
  constructor
  · rintro ⟨a, ha, e⟩
    exact ⟨0, Nat.one_pos, by rw [e]; rfl⟩
  · rintro ⟨i, hi, e⟩
    have hi : i < 1 := hi
    have : i = 0 := by omega
    subst this
    exact ⟨_, fd_In_lo hW, by rw [← e]; rfl⟩
end
section
variable {n : Nat} {G : fd_FC} {c : Nat} {W : Nat → Int32}
theorem fd_ls_min (hT : fd_Tm n G c) (hW : fd_NE n W) (s : Int) : ∃ a, fd_In n W a ∧ s * fd_sum G c a = fd_ls G c W s := by
  obtain ⟨a, ha, h⟩ := fd_ls_at (s := s) hT hW
  exact ⟨a, ha, fd_ls_val h⟩
end
section
variable {f_objectiveSlot f_maxVariables f_maxConstraints f_maxDepth f_variables f_space f_failed f_terms f_cells f_constraints f_level f_mode f_found f_exhausted f_hasCurrent f_objective f_pending : Int32} {f_matched : Int64} {f_depth f_guided f_bounded : Int32} {a_dom a_watch a_order a_direction a_termA a_termV a_cellX a_kind a_relation a_constant a_first a_second a_size a_number a_scope a_savedDom a_savedConstraints a_decidedVariable a_decidedValue a_current a_work a_sums a_grown : Nat → Int32} {a_image : Nat → Int64} {a_mate a_parent a_queue a_reach a_frames a_left : Nat → Int32} {post : Int32 → SX → Prop} {n : Nat}
theorem fd_xalways {c rl : Nat} {k : Int} {R K : Int32} (hT : fd_Tm n (a_kind, a_relation, a_constant, a_first, a_second, a_size, a_number, a_scope) c) (hn : n ≤ 8) (hc : c < 13) (hz1 : 1 ≤ fd_sz (a_kind, a_relation, a_constant, a_first, a_second, a_size, a_number, a_scope) c) (hR : R = nI rl) (hrl : rl ≤ 3) (hK : K.toInt = k) (hk : -5000 ≤ k ∧ k ≤ 5000) (hW : fd_NE n a_work) (hsp : fd_tot n a_work ≤ 1024)
    (h : ∀ r S g, ((r = 1 ∧ ∀ a, fd_In n a_work a → fd_rel rl (fd_sum (a_kind, a_relation, a_constant, a_first, a_second, a_size, a_number, a_scope) c a) k) ∨ (r = 0 ∧ ∃ a, fd_In n a_work a ∧ ¬ fd_rel rl (fd_sum (a_kind, a_relation, a_constant, a_first, a_second, a_size, a_number, a_scope) c a) k)) → post r (f_objectiveSlot, f_maxVariables, f_maxConstraints, f_maxDepth, f_variables, f_space, f_failed, f_terms, f_cells, f_constraints, f_level, f_mode, f_found, f_exhausted, f_hasCurrent, f_objective, f_pending, f_matched, f_depth, f_guided, f_bounded, a_dom, a_watch, a_order, a_direction, a_termA, a_termV, a_cellX, a_kind, a_relation, a_constant, a_first, a_second, a_size, a_number, a_scope, a_savedDom, a_savedConstraints, a_decidedVariable, a_decidedValue, a_current, a_work, S, g, a_image, a_mate, a_parent, a_queue, a_reach, a_frames, a_left)) : wpX_alwaysHolds post (f_objectiveSlot, f_maxVariables, f_maxConstraints, f_maxDepth, f_variables, f_space, f_failed, f_terms, f_cells, f_constraints, f_level, f_mode, f_found, f_exhausted, f_hasCurrent, f_objective, f_pending, f_matched, f_depth, f_guided, f_bounded, a_dom, a_watch, a_order, a_direction, a_termA, a_termV, a_cellX, a_kind, a_relation, a_constant, a_first, a_second, a_size, a_number, a_scope, a_savedDom, a_savedConstraints, a_decidedVariable, a_decidedValue, a_current, a_work, a_sums, a_grown, a_image, a_mate, a_parent, a_queue, a_reach, a_frames, a_left) (nI c) R K := by
  subst hR
  refine fd_xls (s := 1) hT hn hc (Or.inl rfl) rfl (fun x hx => fd_xls (s := -1) hT hn hc (Or.inr rfl) rfl (fun y hy => ?_))
  intro z ez
  have b1 := fd_ls_bd (W := a_work) (s := 1) hT (Or.inl rfl)
  have b2 := fd_ls_bd (W := a_work) (s := -1) hT (Or.inr rfl)
  have hz : z.toInt = - fd_ls (a_kind, a_relation, a_constant, a_first, a_second, a_size, a_number, a_scope) c a_work (-1) := by rw [ez, fd_neg (by omega), hy]
  obtain ⟨a1, i1, v1⟩ := fd_ls_min hT hW 1
  obtain ⟨a2, i2, v2⟩ := fd_ls_min hT hW (-1)
  have lo : ∀ a, fd_In n a_work a → fd_ls (a_kind, a_relation, a_constant, a_first, a_second, a_size, a_number, a_scope) c a_work 1 ≤ fd_sum (a_kind, a_relation, a_constant, a_first, a_second, a_size, a_number, a_scope) c a := fun a ha => by have := fd_ls_le (s := 1) hT ha; omega
  have hi : ∀ a, fd_In n a_work a → fd_sum (a_kind, a_relation, a_constant, a_first, a_second, a_size, a_number, a_scope) c a ≤ - fd_ls (a_kind, a_relation, a_constant, a_first, a_second, a_size, a_number, a_scope) c a_work (-1) := fun a ha => by have := fd_ls_le (s := -1) hT ha; omega
  rcases (by omega : rl = 0 ∨ rl = 1 ∨ rl = 2 ∨ rl = 3) with e | e | e | e
  · subst e
    refine br_f (by decide) (br_f (by decide) (br_t (by decide) ?_))
    by_cases c1 : x = K
    · refine br_t c1 ?_
      rw [← Int32.toInt_inj, hx, hK] at c1
      by_cases c2 : z = K
      · refine br_t c2 (h 1 a_sums a_grown (Or.inl ⟨rfl, fun a ha => ?_⟩))
        rw [← Int32.toInt_inj, hz, hK] at c2
        show fd_sum (a_kind, a_relation, a_constant, a_first, a_second, a_size, a_number, a_scope) c a = k
        have := lo a ha
        have := hi a ha
        omega
      · refine br_f c2 (h 0 a_sums a_grown (Or.inr ⟨rfl, a2, i2, fun q => c2 ?_⟩))
        have q : fd_sum (a_kind, a_relation, a_constant, a_first, a_second, a_size, a_number, a_scope) c a2 = k := q
        rw [← Int32.toInt_inj, hz, hK]; omega
    · refine br_f c1 (h 0 a_sums a_grown (Or.inr ⟨rfl, a1, i1, fun q => c1 ?_⟩))
      have q : fd_sum (a_kind, a_relation, a_constant, a_first, a_second, a_size, a_number, a_scope) c a1 = k := q
      rw [← Int32.toInt_inj, hx, hK]; omega
  · subst e
    refine br_f (by decide) (br_f (by decide) (br_f (by decide) (br_t (by decide) ?_)))
    by_cases c1 : K < x
    · refine br_t c1 (h 1 a_sums a_grown (Or.inl ⟨rfl, fun a ha => ?_⟩))
      rw [Int32.lt_iff_toInt_lt, hx, hK] at c1
      show fd_sum (a_kind, a_relation, a_constant, a_first, a_second, a_size, a_number, a_scope) c a ≠ k
      have := lo a ha
      omega
    · refine br_f c1 ?_
      by_cases c2 : z < K
      · refine br_t c2 (h 1 a_sums a_grown (Or.inl ⟨rfl, fun a ha => ?_⟩))
        rw [Int32.lt_iff_toInt_lt, hz, hK] at c2
        show fd_sum (a_kind, a_relation, a_constant, a_first, a_second, a_size, a_number, a_scope) c a ≠ k
        have := hi a ha
        omega
      · refine br_f c2 (fd_xreach hT hn hc hz1 hK hk hW hsp (fun r S g hr => ?_))
        rcases hr with ⟨rfl, a, ha, e⟩ | ⟨rfl, hno⟩
        · exact br_f (by decide) (h 0 S g (Or.inr ⟨rfl, a, ha, fun q => q e⟩))
        · exact br_t rfl (h 1 S g (Or.inl ⟨rfl, hno⟩))
  · subst e
    refine br_f (by decide) (br_f (by decide) (br_f (by decide) (br_f (by decide) (br_t (by decide) ?_))))
    by_cases c1 : K < z
    · refine br_t c1 (h 0 a_sums a_grown (Or.inr ⟨rfl, a2, i2, fun q => ?_⟩))
      rw [Int32.lt_iff_toInt_lt, hz, hK] at c1
      have q : fd_sum (a_kind, a_relation, a_constant, a_first, a_second, a_size, a_number, a_scope) c a2 ≤ k := q
      omega
    · refine br_f c1 (h 1 a_sums a_grown (Or.inl ⟨rfl, fun a ha => ?_⟩))
      rw [Int32.lt_iff_toInt_lt, hz, hK] at c1
      show fd_sum (a_kind, a_relation, a_constant, a_first, a_second, a_size, a_number, a_scope) c a ≤ k
      have := hi a ha
      omega
  · subst e
    refine br_f (by decide) (br_f (by decide) (br_f (by decide) (br_f (by decide) (br_f (by decide) (br_t (by decide) ?_)))))
    by_cases c1 : x < K
    · refine br_t c1 (h 0 a_sums a_grown (Or.inr ⟨rfl, a1, i1, fun q => ?_⟩))
      rw [Int32.lt_iff_toInt_lt, hx, hK] at c1
      have q : k ≤ fd_sum (a_kind, a_relation, a_constant, a_first, a_second, a_size, a_number, a_scope) c a1 := q
      omega
    · refine br_f c1 (h 1 a_sums a_grown (Or.inl ⟨rfl, fun a ha => ?_⟩))
      rw [Int32.lt_iff_toInt_lt, hx, hK] at c1
      show k ≤ fd_sum (a_kind, a_relation, a_constant, a_first, a_second, a_size, a_number, a_scope) c a
      have := lo a ha
      omega
end
end
section
/-! ===== X: filterReified, filterElement ===== -/
def fd_ol (rl : Nat) : Nat := if rl = 0 then 1 else if rl = 1 then 0 else if rl = 2 then 3 else 2
def fd_ok (rl : Nat) (k : Int) : Int := if rl = 2 then k + 1 else if rl = 3 then k - 1 else k
theorem fd_opp {rl : Nat} {s k : Int} (h : rl ≤ 3) : fd_rel (fd_ol rl) s (fd_ok rl k) ↔ ¬ fd_rel rl s k := by
  rcases (by omega : rl = 0 ∨ rl = 1 ∨ rl = 2 ∨ rl = 3) with e | e | e | e
  · subst e; show s ≠ k ↔ ¬ s = k; exact Iff.rfl
  · subst e; show s = k ↔ ¬ s ≠ k; omega
  · subst e; show k + 1 ≤ s ↔ ¬ s ≤ k; omega
  · subst e; show s ≤ k - 1 ↔ ¬ k ≤ s; omega
theorem fd_ol_le (rl : Nat) : fd_ol rl ≤ 3 := by unfold fd_ol; split <;> (try split) <;> (try split) <;> omega
theorem fd_ol_x {rl : Nat} (h : rl ≤ 3) : nI rl ^^^ 1 = nI (fd_ol rl) := by
  rcases (by omega : rl = 0 ∨ rl = 1 ∨ rl = 2 ∨ rl = 3) with e | e | e | e <;> subst e <;> decide
theorem fd_ok_bd {rl : Nat} {k : Int} (h : -4096 ≤ k ∧ k ≤ 4096) : -4097 ≤ fd_ok rl k ∧ fd_ok rl k ≤ 4097 := by
  unfold fd_ok; split <;> (try split) <;> omega
theorem fd_bt1 (e : Nat) : bt 1 e = true ↔ e = 0 := by
  constructor
  · intro q
    have := fd_lt q
    rw [fd_t1 e this] at q; exact decide_eq_true_iff.mp q
  · intro q; rw [q]; decide
theorem fd_t2 : ∀ i, i < 32 → bt 2 i = decide (i = 1) := by decide +kernel
theorem fd_bt2 (e : Nat) : bt 2 e = true ↔ e = 1 := by
  constructor
  · intro q
    have := fd_lt q
    rw [fd_t2 e this] at q; exact decide_eq_true_iff.mp q
  · intro q; rw [q]; decide
theorem fd_Rev_tr {n : Nat} {W W1 W' : Nat → Int32} {P P1 : (Nat → Nat) → Prop} {r : Int32} (h : ∀ a, (fd_In n W a ∧ P a) ↔ (fd_In n W1 a ∧ P1 a)) (k : fd_Rev n W1 P1 r W') : fd_Rev n W P r W' := by
  rcases k with ⟨r1, x, y⟩ | ⟨r0, x⟩
  · refine Or.inl ⟨r1, fun v hv d => ?_, y⟩
    rw [x v hv d]
    constructor
    · rintro ⟨a, p, q, s⟩; have := (h a).mpr ⟨p, q⟩; exact ⟨a, this.1, this.2, s⟩
    · rintro ⟨a, p, q, s⟩; have := (h a).mp ⟨p, q⟩; exact ⟨a, this.1, this.2, s⟩
  · exact Or.inr ⟨r0, fun a ha hP => by have := (h a).mp ⟨ha, hP⟩; exact x a this.1 this.2⟩
section
variable {n : Nat} {G : fd_FC} {c : Nat} {W : Nat → Int32}
theorem fd_WF1 (w : fd_WF n G c) (h : fd_kd G c = 1) : fd_Tm n G c ∧ 1 ≤ fd_sz G c ∧ fd_Li G c ∧ (fd_rl G c = 0 → fd_sz G c ≤ 2) := by
  rcases w with w | w | w | w
  · exact w.2
  · rw [h] at w; exact absurd w.1 (by decide)
  · rw [h] at w; exact absurd w.1 (by decide)
  · rw [h] at w; exact absurd w.1 (by decide)
theorem fd_WF2 (w : fd_WF n G c) (h : fd_kd G c = 2) : fd_Tm n G c ∧ 1 ≤ fd_sz G c ∧ fd_Li G c ∧ fd_sz G c ≤ 2 ∧ fd_fi G c < n ∧ G.2.2.2.1 c = nI (fd_fi G c) ∧ ∀ j, j < fd_sz G c → fd_sp G c j ≠ fd_fi G c := by
  rcases w with w | w | w | w
  · rw [h] at w; exact absurd w.1 (by decide)
  · exact w.2
  · rw [h] at w; exact absurd w.1 (by decide)
  · rw [h] at w; exact absurd w.1 (by decide)
theorem fd_WF3 (w : fd_WF n G c) (h : fd_kd G c = 3) : fd_Tm n G c ∧ 1 ≤ fd_sz G c := by
  rcases w with w | w | w | w
  · rw [h] at w; exact absurd w.1 (by decide)
  · rw [h] at w; exact absurd w.1 (by decide)
  · exact w.2
  · rw [h] at w; exact absurd w.1 (by decide)
theorem fd_WF4 (w : fd_WF n G c) (h : fd_kd G c = 4) : fd_fi G c < n ∧ G.2.2.2.1 c = nI (fd_fi G c) ∧ fd_se G c < n ∧ G.2.2.2.2.1 c = nI (fd_se G c) ∧ fd_fi G c ≠ fd_se G c ∧ 1 ≤ fd_sz G c ∧ fd_sz G c ≤ 16 ∧ G.2.2.2.2.2.1 c = nI (fd_sz G c) ∧ ∀ j, j < fd_sz G c → 0 ≤ fd_nu G c j ∧ fd_nu G c j ≤ 31 := by
  rcases w with w | w | w | w
  · rw [h] at w; exact absurd w.1 (by decide)
  · rw [h] at w; exact absurd w.1 (by decide)
  · rw [h] at w; exact absurd w.1 (by decide)
  · exact w.2
theorem fd_kd4 (w : fd_WF n G c) : fd_kd G c = 1 ∨ fd_kd G c = 2 ∨ fd_kd G c = 3 ∨ fd_kd G c = 4 := by
  rcases w with w | w | w | w
  · exact Or.inl w.1
  · exact Or.inr (Or.inl w.1)
  · exact Or.inr (Or.inr (Or.inl w.1))
  · exact Or.inr (Or.inr (Or.inr w.1))
/-- changing the truth variable leaves the sum -/
theorem fd_sum_up {a : Nat → Nat} {b d : Nat} (h : ∀ j, j < fd_sz G c → fd_sp G c j ≠ b) : fd_sum G c (fd_up a b d) = fd_sum G c a :=
  fd_sum_dep (fun j hj => fd_up_n a (h j hj))
end
section
variable {f_objectiveSlot f_maxVariables f_maxConstraints f_maxDepth f_variables f_space f_failed f_terms f_cells f_constraints f_level f_mode f_found f_exhausted f_hasCurrent f_objective f_pending : Int32} {f_matched : Int64} {f_depth f_guided f_bounded : Int32} {a_dom a_watch a_order a_direction a_termA a_termV a_cellX a_kind a_relation a_constant a_first a_second a_size a_number a_scope a_savedDom a_savedConstraints a_decidedVariable a_decidedValue a_current a_work a_sums a_grown : Nat → Int32} {a_image : Nat → Int64} {a_mate a_parent a_queue a_reach a_frames a_left : Nat → Int32} {post : Int32 → SX → Prop} {n : Nat}
theorem fd_xopp {rl : Nat} {k : Int} {K : Int32} {post : Int32 → Prop} (h : rl ≤ 3) (hK : K.toInt = k) (hk : -4096 ≤ k ∧ k ≤ 4096) (hp : ∀ K' : Int32, K'.toInt = fd_ok rl k → post K') : wpX_oppositeConstant post (f_objectiveSlot, f_maxVariables, f_maxConstraints, f_maxDepth, f_variables, f_space, f_failed, f_terms, f_cells, f_constraints, f_level, f_mode, f_found, f_exhausted, f_hasCurrent, f_objective, f_pending, f_matched, f_depth, f_guided, f_bounded, a_dom, a_watch, a_order, a_direction, a_termA, a_termV, a_cellX, a_kind, a_relation, a_constant, a_first, a_second, a_size, a_number, a_scope, a_savedDom, a_savedConstraints, a_decidedVariable, a_decidedValue, a_current, a_work, a_sums, a_grown, a_image, a_mate, a_parent, a_queue, a_reach, a_frames, a_left) (nI rl) K := by
  have o1 : (1 : Int32).toInt = 1 := rfl
  rcases (by omega : rl = 0 ∨ rl = 1 ∨ rl = 2 ∨ rl = 3) with e | e | e | e
  · subst e; exact br_f (by decide) (br_f (by decide) (hp K hK))
  · subst e; exact br_f (by decide) (br_f (by decide) (hp K hK))
  · subst e
    refine br_t (by decide) (hp _ ?_)
    rw [fd_add (by rw [o1, hK]; omega) (by rw [o1, hK]; omega), o1, hK]; rfl
  · subst e
    refine br_f (by decide) (br_t (by decide) (hp _ ?_))
    rw [fd_sub (by rw [o1, hK]; omega) (by rw [o1, hK]; omega), o1, hK]; rfl
theorem fd_xrei74 {c : Nat} {x7 K K' : Int32} (w : fd_WF n (a_kind, a_relation, a_constant, a_first, a_second, a_size, a_number, a_scope) c) (hkd : fd_kd (a_kind, a_relation, a_constant, a_first, a_second, a_size, a_number, a_scope) c = 2) (hn : n ≤ 8) (hc : c < 13) (hW : fd_NE n a_work) (hK : K.toInt = fd_ct (a_kind, a_relation, a_constant, a_first, a_second, a_size, a_number, a_scope) c) (hK' : K'.toInt = fd_ok (fd_rl (a_kind, a_relation, a_constant, a_first, a_second, a_size, a_number, a_scope) c) (fd_ct (a_kind, a_relation, a_constant, a_first, a_second, a_size, a_number, a_scope) c))
    (hx7 : ∀ d, bt x7 d = true ↔ ((d = 0 ∧ ∃ a, fd_In n a_work a ∧ ¬ fd_rel (fd_rl (a_kind, a_relation, a_constant, a_first, a_second, a_size, a_number, a_scope) c) (fd_sum (a_kind, a_relation, a_constant, a_first, a_second, a_size, a_number, a_scope) c a) (fd_ct (a_kind, a_relation, a_constant, a_first, a_second, a_size, a_number, a_scope) c)) ∨ (d = 1 ∧ ∃ a, fd_In n a_work a ∧ fd_rel (fd_rl (a_kind, a_relation, a_constant, a_first, a_second, a_size, a_number, a_scope) c) (fd_sum (a_kind, a_relation, a_constant, a_first, a_second, a_size, a_number, a_scope) c a) (fd_ct (a_kind, a_relation, a_constant, a_first, a_second, a_size, a_number, a_scope) c))))
    (h : ∀ r W' p', fd_Nar n a_watch a_work f_pending W' p' → fd_Rev n a_work (fd_H (a_kind, a_relation, a_constant, a_first, a_second, a_size, a_number, a_scope) c) r W' → post r (f_objectiveSlot, f_maxVariables, f_maxConstraints, f_maxDepth, f_variables, f_space, f_failed, f_terms, f_cells, f_constraints, f_level, f_mode, f_found, f_exhausted, f_hasCurrent, f_objective, p', f_matched, f_depth, f_guided, f_bounded, a_dom, a_watch, a_order, a_direction, a_termA, a_termV, a_cellX, a_kind, a_relation, a_constant, a_first, a_second, a_size, a_number, a_scope, a_savedDom, a_savedConstraints, a_decidedVariable, a_decidedValue, a_current, W', a_sums, a_grown, a_image, a_mate, a_parent, a_queue, a_reach, a_frames, a_left)) : wX_filterReified_74 post (nI c) (nI (fd_fi (a_kind, a_relation, a_constant, a_first, a_second, a_size, a_number, a_scope) c)) (nI (fd_rl (a_kind, a_relation, a_constant, a_first, a_second, a_size, a_number, a_scope) c)) K (nI (fd_ol (fd_rl (a_kind, a_relation, a_constant, a_first, a_second, a_size, a_number, a_scope) c))) K' x7 f_objectiveSlot f_maxVariables f_maxConstraints f_maxDepth f_variables f_space f_failed f_terms f_cells f_constraints f_level f_mode f_found f_exhausted f_hasCurrent f_objective f_pending f_matched f_depth f_guided f_bounded a_dom a_watch a_order a_direction a_termA a_termV a_cellX a_kind a_relation a_constant a_first a_second a_size a_number a_scope a_savedDom a_savedConstraints a_decidedVariable a_decidedValue a_current a_work a_sums a_grown a_image a_mate a_parent a_queue a_reach a_frames a_left := by
  obtain ⟨hT, hz1, ⟨l1, l2, l3, l4, l5⟩, hz2, hb, hfi, hbn⟩ := fd_WF2 w hkd
  have eb : (nI (fd_fi (a_kind, a_relation, a_constant, a_first, a_second, a_size, a_number, a_scope) c)).toNatClampNeg = fd_fi (a_kind, a_relation, a_constant, a_first, a_second, a_size, a_number, a_scope) c := pk_cl _
  have kb := fd_ok_bd (rl := fd_rl (a_kind, a_relation, a_constant, a_first, a_second, a_size, a_number, a_scope) c) ⟨l3, l4⟩
  -- the supported truth values
  have sup : ∀ a, fd_In n a_work a → fd_H (a_kind, a_relation, a_constant, a_first, a_second, a_size, a_number, a_scope) c a → bt x7 (a (fd_fi (a_kind, a_relation, a_constant, a_first, a_second, a_size, a_number, a_scope) c)) = true := by
    intro a ha hH
    rw [hx7]
    rcases (fd_H2 hkd).mp hH with ⟨e, q⟩ | ⟨e, q⟩
    · exact Or.inr ⟨e, a, ha, q⟩
    · exact Or.inl ⟨e, a, ha, q⟩
  have sup2 : ∀ d, bt (a_work (fd_fi (a_kind, a_relation, a_constant, a_first, a_second, a_size, a_number, a_scope) c)) d = true → bt x7 d = true → fd_PJ n a_work (fd_H (a_kind, a_relation, a_constant, a_first, a_second, a_size, a_number, a_scope) c) (fd_fi (a_kind, a_relation, a_constant, a_first, a_second, a_size, a_number, a_scope) c) d := by
    intro d hd hx
    rcases (hx7 d).mp hx with ⟨e, a, ha, q⟩ | ⟨e, a, ha, q⟩
    · refine ⟨_, fd_In_up ha hd, (fd_H2 hkd).mpr (Or.inr ⟨by rw [fd_up_s]; exact e, ?_⟩), fd_up_s _ _ _⟩
      rw [fd_sum_up hbn]; exact q
    · refine ⟨_, fd_In_up ha hd, (fd_H2 hkd).mpr (Or.inl ⟨by rw [fd_up_s]; exact e, ?_⟩), fd_up_s _ _ _⟩
      rw [fd_sum_up hbn]; exact q
  unfold wX_filterReified_74
  refine fd_xnar hb hn (fun r p' hN hr => ?_)
  rcases hr with ⟨rfl, z⟩ | ⟨rfl, z⟩
  · refine br_t rfl (h 0 _ p' hN (Or.inr ⟨rfl, fun a ha hH => ?_⟩))
    have q := fd_eq0.mp z (a (fd_fi (a_kind, a_relation, a_constant, a_first, a_second, a_size, a_number, a_scope) c))
    rw [b_and, ha _ hb, sup a ha hH] at q
    exact absurd q (by decide)
  · have hW1 : fd_NE n (upd a_work (fd_fi (a_kind, a_relation, a_constant, a_first, a_second, a_size, a_number, a_scope) c) (a_work (fd_fi (a_kind, a_relation, a_constant, a_first, a_second, a_size, a_number, a_scope) c) &&& x7)) := fun v hv => by
      by_cases e : v = fd_fi (a_kind, a_relation, a_constant, a_first, a_second, a_size, a_number, a_scope) c
      · rw [e, pk_us]; exact z
      · rw [pk_un e]; exact hW v hv
    have sub1 : fd_Sub n (upd a_work (fd_fi (a_kind, a_relation, a_constant, a_first, a_second, a_size, a_number, a_scope) c) (a_work (fd_fi (a_kind, a_relation, a_constant, a_first, a_second, a_size, a_number, a_scope) c) &&& x7)) a_work := fun v _ d hd => hN.1 v d hd
    have bx : ∀ a, fd_In n (upd a_work (fd_fi (a_kind, a_relation, a_constant, a_first, a_second, a_size, a_number, a_scope) c) (a_work (fd_fi (a_kind, a_relation, a_constant, a_first, a_second, a_size, a_number, a_scope) c) &&& x7)) a ↔ (fd_In n a_work a ∧ bt x7 (a (fd_fi (a_kind, a_relation, a_constant, a_first, a_second, a_size, a_number, a_scope) c)) = true) := by
      intro a
      constructor
      · intro ha
        refine ⟨fd_In_sub sub1 ha, ?_⟩
        have := ha _ hb
        rw [pk_us, b_and, Bool.and_eq_true] at this
        exact this.2
      · rintro ⟨ha, q⟩ v hv
        by_cases e : v = fd_fi (a_kind, a_relation, a_constant, a_first, a_second, a_size, a_number, a_scope) c
        · rw [e, pk_us, b_and, ha _ hb, q]; rfl
        · rw [pk_un e]; exact ha v hv
    refine br_f (by decide) ⟨fd_in8 (by omega), ?_⟩
    rw [eb, pk_us]
    by_cases c2 : (a_work (fd_fi (a_kind, a_relation, a_constant, a_first, a_second, a_size, a_number, a_scope) c) &&& x7) = 2
    · refine br_t c2 (fd_xlinear (rl := fd_rl (a_kind, a_relation, a_constant, a_first, a_second, a_size, a_number, a_scope) c) hT hn hc hz1 l5 rfl l2 (fun _ => hz2) hK (by omega) hW1 (fun r W' p'' hN' hR => ⟨fd_nb01 (fd_Rev_01 hR), h r W' p'' (fd_Nar_tr hN hN') (fd_Rev_tr (fun a => ?_) hR)⟩))
      have only : ∀ a, fd_In n (upd a_work (fd_fi (a_kind, a_relation, a_constant, a_first, a_second, a_size, a_number, a_scope) c) (a_work (fd_fi (a_kind, a_relation, a_constant, a_first, a_second, a_size, a_number, a_scope) c) &&& x7)) a → a (fd_fi (a_kind, a_relation, a_constant, a_first, a_second, a_size, a_number, a_scope) c) = 1 := fun a ha => by
        have := ha _ hb
        rw [pk_us, c2] at this
        exact (fd_bt2 _).mp this
      constructor
      · rintro ⟨ha, hH⟩
        have h1 := (bx a).mpr ⟨ha, sup a ha hH⟩
        refine ⟨h1, ?_⟩
        have e := only a h1
        rcases (fd_H2 hkd).mp hH with ⟨_, q⟩ | ⟨e', q⟩
        · exact q
        · omega
      · rintro ⟨ha, q⟩
        exact ⟨fd_In_sub sub1 ha, (fd_H2 hkd).mpr (Or.inl ⟨only a ha, q⟩)⟩
    · refine br_f c2 ⟨fd_in8 (by omega), ?_⟩
      by_cases c1 : (a_work (fd_fi (a_kind, a_relation, a_constant, a_first, a_second, a_size, a_number, a_scope) c) &&& x7) = 1
      · refine br_t c1 (fd_xlinear (rl := fd_ol (fd_rl (a_kind, a_relation, a_constant, a_first, a_second, a_size, a_number, a_scope) c)) hT hn hc hz1 l5 rfl (fd_ol_le _) (fun _ => hz2) hK' (by omega) hW1 (fun r W' p'' hN' hR => ⟨fd_nb01 (fd_Rev_01 hR), h r W' p'' (fd_Nar_tr hN hN') (fd_Rev_tr (fun a => ?_) hR)⟩))
        have only : ∀ a, fd_In n (upd a_work (fd_fi (a_kind, a_relation, a_constant, a_first, a_second, a_size, a_number, a_scope) c) (a_work (fd_fi (a_kind, a_relation, a_constant, a_first, a_second, a_size, a_number, a_scope) c) &&& x7)) a → a (fd_fi (a_kind, a_relation, a_constant, a_first, a_second, a_size, a_number, a_scope) c) = 0 := fun a ha => by
          have := ha _ hb
          rw [pk_us, c1] at this
          exact (fd_bt1 _).mp this
        constructor
        · rintro ⟨ha, hH⟩
          have h1 := (bx a).mpr ⟨ha, sup a ha hH⟩
          refine ⟨h1, (fd_opp l2).mpr ?_⟩
          have e := only a h1
          rcases (fd_H2 hkd).mp hH with ⟨e', q⟩ | ⟨_, q⟩
          · omega
          · exact q
        · rintro ⟨ha, q⟩
          exact ⟨fd_In_sub sub1 ha, (fd_H2 hkd).mpr (Or.inr ⟨only a ha, (fd_opp l2).mp q⟩)⟩
      · refine br_f c1 (h 1 _ p' hN ?_)
        -- both truth values are left
        have m01 : ∀ d, bt (a_work (fd_fi (a_kind, a_relation, a_constant, a_first, a_second, a_size, a_number, a_scope) c) &&& x7) d = true → d = 0 ∨ d = 1 := fun d hd => by
          rw [b_and, Bool.and_eq_true] at hd
          rcases (hx7 d).mp hd.2 with ⟨e, _⟩ | ⟨e, _⟩
          · exact Or.inl e
          · exact Or.inr e
        have b0 : bt (a_work (fd_fi (a_kind, a_relation, a_constant, a_first, a_second, a_size, a_number, a_scope) c) &&& x7) 0 = true := Classical.byContradiction (fun q => c2 (by
          apply b_ext
          intro i _
          cases e : bt (a_work (fd_fi (a_kind, a_relation, a_constant, a_first, a_second, a_size, a_number, a_scope) c) &&& x7) i with
          | true =>
            rcases m01 i e with e0 | e0
            · rw [e0] at e; exact absurd e q
            · rw [e0]; decide
          | false =>
            cases e2 : bt 2 i with
            | false => rfl
            | true =>
              have i1 := (fd_bt2 i).mp e2
              obtain ⟨d, hd⟩ := fd_ne0.mp z
              rcases m01 d hd with e0 | e0
              · rw [e0] at hd; exact absurd hd q
              · rw [i1, ← e0, hd] at e; exact absurd e (by decide)))
        have b1 : bt (a_work (fd_fi (a_kind, a_relation, a_constant, a_first, a_second, a_size, a_number, a_scope) c) &&& x7) 1 = true := Classical.byContradiction (fun q => c1 (by
          apply b_ext
          intro i _
          cases e : bt (a_work (fd_fi (a_kind, a_relation, a_constant, a_first, a_second, a_size, a_number, a_scope) c) &&& x7) i with
          | true =>
            rcases m01 i e with e0 | e0
            · rw [e0]; decide
            · rw [e0] at e; exact absurd e q
          | false =>
            cases e2 : bt 1 i with
            | false => rfl
            | true =>
              have i1 := (fd_bt1 i).mp e2
              rw [i1, b0] at e; exact absurd e (by decide)))
        rw [b_and, Bool.and_eq_true] at b0 b1
        have full : ∀ a, fd_In n a_work a → fd_PJ n a_work (fd_H (a_kind, a_relation, a_constant, a_first, a_second, a_size, a_number, a_scope) c) (fd_fi (a_kind, a_relation, a_constant, a_first, a_second, a_size, a_number, a_scope) c) 0 → ∃ a', fd_In n a_work a' ∧ fd_H (a_kind, a_relation, a_constant, a_first, a_second, a_size, a_number, a_scope) c a' ∧ ∀ v, v ≠ fd_fi (a_kind, a_relation, a_constant, a_first, a_second, a_size, a_number, a_scope) c → a' v = a v := by
          intro a ha _
          by_cases q : fd_rel (fd_rl (a_kind, a_relation, a_constant, a_first, a_second, a_size, a_number, a_scope) c) (fd_sum (a_kind, a_relation, a_constant, a_first, a_second, a_size, a_number, a_scope) c a) (fd_ct (a_kind, a_relation, a_constant, a_first, a_second, a_size, a_number, a_scope) c)
          · refine ⟨_, fd_In_up ha b1.1, (fd_H2 hkd).mpr (Or.inl ⟨fd_up_s _ _ _, ?_⟩), fun v hv => fd_up_n a hv⟩
            rw [fd_sum_up hbn]; exact q
          · refine ⟨_, fd_In_up ha b0.1, (fd_H2 hkd).mpr (Or.inr ⟨fd_up_s _ _ _, ?_⟩), fun v hv => fd_up_n a hv⟩
            rw [fd_sum_up hbn]; exact q
        have p0 := sup2 0 b0.1 b0.2
        obtain ⟨a0, i0, h0, _⟩ := p0
        refine fd_fin (S := fd_Sc (a_kind, a_relation, a_constant, a_first, a_second, a_size, a_number, a_scope) c) (fun a b hab ha => fd_dep w hab ha) (fd_Mid_1 hb fd_Mid_rf (fun d hd hp => ?_)) (fun v hv hS d hd => ?_) a0 i0 h0
        · obtain ⟨a, ha, hH, e⟩ := hp
          rw [← e]; exact sup a ha hH
        · by_cases e : v = fd_fi (a_kind, a_relation, a_constant, a_first, a_second, a_size, a_number, a_scope) c
          · subst e
            rw [pk_us, b_and, Bool.and_eq_true] at hd
            exact sup2 d hd.1 hd.2
          · rw [pk_un e] at hd
            obtain ⟨a', x, y, u⟩ := full _ (fd_In_up i0 hd) (sup2 0 b0.1 b0.2)
            exact ⟨a', x, y, by rw [u v e, fd_up_s]⟩
theorem fd_xrei56 {c : Nat} {x7 K K' : Int32} (w : fd_WF n (a_kind, a_relation, a_constant, a_first, a_second, a_size, a_number, a_scope) c) (hkd : fd_kd (a_kind, a_relation, a_constant, a_first, a_second, a_size, a_number, a_scope) c = 2) (hn : n ≤ 8) (hc : c < 13) (hW : fd_NE n a_work) (hsp : fd_tot n a_work ≤ 1024) (hK : K.toInt = fd_ct (a_kind, a_relation, a_constant, a_first, a_second, a_size, a_number, a_scope) c) (hK' : K'.toInt = fd_ok (fd_rl (a_kind, a_relation, a_constant, a_first, a_second, a_size, a_number, a_scope) c) (fd_ct (a_kind, a_relation, a_constant, a_first, a_second, a_size, a_number, a_scope) c))
    (hx7 : ∀ d, bt x7 d = true ↔ (d = 0 ∧ ∃ a, fd_In n a_work a ∧ ¬ fd_rel (fd_rl (a_kind, a_relation, a_constant, a_first, a_second, a_size, a_number, a_scope) c) (fd_sum (a_kind, a_relation, a_constant, a_first, a_second, a_size, a_number, a_scope) c a) (fd_ct (a_kind, a_relation, a_constant, a_first, a_second, a_size, a_number, a_scope) c)))
    (h : ∀ r W' p' S g, fd_Nar n a_watch a_work f_pending W' p' → fd_Rev n a_work (fd_H (a_kind, a_relation, a_constant, a_first, a_second, a_size, a_number, a_scope) c) r W' → post r (f_objectiveSlot, f_maxVariables, f_maxConstraints, f_maxDepth, f_variables, f_space, f_failed, f_terms, f_cells, f_constraints, f_level, f_mode, f_found, f_exhausted, f_hasCurrent, f_objective, p', f_matched, f_depth, f_guided, f_bounded, a_dom, a_watch, a_order, a_direction, a_termA, a_termV, a_cellX, a_kind, a_relation, a_constant, a_first, a_second, a_size, a_number, a_scope, a_savedDom, a_savedConstraints, a_decidedVariable, a_decidedValue, a_current, W', S, g, a_image, a_mate, a_parent, a_queue, a_reach, a_frames, a_left)) : wX_filterReified_56 post (nI c) (nI (fd_fi (a_kind, a_relation, a_constant, a_first, a_second, a_size, a_number, a_scope) c)) (nI (fd_rl (a_kind, a_relation, a_constant, a_first, a_second, a_size, a_number, a_scope) c)) K (nI (fd_ol (fd_rl (a_kind, a_relation, a_constant, a_first, a_second, a_size, a_number, a_scope) c))) K' x7 f_objectiveSlot f_maxVariables f_maxConstraints f_maxDepth f_variables f_space f_failed f_terms f_cells f_constraints f_level f_mode f_found f_exhausted f_hasCurrent f_objective f_pending f_matched f_depth f_guided f_bounded a_dom a_watch a_order a_direction a_termA a_termV a_cellX a_kind a_relation a_constant a_first a_second a_size a_number a_scope a_savedDom a_savedConstraints a_decidedVariable a_decidedValue a_current a_work a_sums a_grown a_image a_mate a_parent a_queue a_reach a_frames a_left := by
  obtain ⟨hT, hz1, ⟨l1, l2, l3, l4, l5⟩, hz2, hb, hfi, hbn⟩ := fd_WF2 w hkd
  have kb := fd_ok_bd (rl := fd_rl (a_kind, a_relation, a_constant, a_first, a_second, a_size, a_number, a_scope) c) ⟨l3, l4⟩
  unfold wX_filterReified_56
  refine fd_xalways (rl := fd_ol (fd_rl (a_kind, a_relation, a_constant, a_first, a_second, a_size, a_number, a_scope) c)) hT hn hc hz1 rfl (fd_ol_le _) hK' (by omega) hW hsp (fun r S g hr => ?_)
  rcases hr with ⟨rfl, hall⟩ | ⟨rfl, a, ha, hno⟩
  · refine br_f (by decide) (fd_xrei74 (a_sums := S) (a_grown := g) w hkd hn hc hW hK hK' (fun d => ?_) (fun r W' p' hN hR => h r W' p' S g hN hR))
    rw [hx7 d]
    constructor
    · exact Or.inl
    · rintro (q | ⟨_, a, ha, q⟩)
      · exact q
      · exact absurd q ((fd_opp l2).mp (hall a ha))
  · refine br_t rfl (nm_e (fd_xrei74 (a_sums := S) (a_grown := g) w hkd hn hc hW hK hK' (fun d => ?_) (fun r W' p' hN hR => h r W' p' S g hN hR)))
    rw [b_or, Bool.or_eq_true, hx7 d, fd_bt2]
    constructor
    · rintro (q | q)
      · exact Or.inl q
      · exact Or.inr ⟨q, a, ha, Classical.byContradiction (fun x => hno ((fd_opp l2).mpr x))⟩
    · rintro (q | q)
      · exact Or.inl q
      · exact Or.inr q.1
theorem fd_xreified {c : Nat} (w : fd_WF n (a_kind, a_relation, a_constant, a_first, a_second, a_size, a_number, a_scope) c) (hkd : fd_kd (a_kind, a_relation, a_constant, a_first, a_second, a_size, a_number, a_scope) c = 2) (hn : n ≤ 8) (hc : c < 13) (hW : fd_NE n a_work) (hsp : fd_tot n a_work ≤ 1024)
    (h : ∀ r W' p' S g, fd_Nar n a_watch a_work f_pending W' p' → fd_Rev n a_work (fd_H (a_kind, a_relation, a_constant, a_first, a_second, a_size, a_number, a_scope) c) r W' → post r (f_objectiveSlot, f_maxVariables, f_maxConstraints, f_maxDepth, f_variables, f_space, f_failed, f_terms, f_cells, f_constraints, f_level, f_mode, f_found, f_exhausted, f_hasCurrent, f_objective, p', f_matched, f_depth, f_guided, f_bounded, a_dom, a_watch, a_order, a_direction, a_termA, a_termV, a_cellX, a_kind, a_relation, a_constant, a_first, a_second, a_size, a_number, a_scope, a_savedDom, a_savedConstraints, a_decidedVariable, a_decidedValue, a_current, W', S, g, a_image, a_mate, a_parent, a_queue, a_reach, a_frames, a_left)) : wpX_filterReified post (f_objectiveSlot, f_maxVariables, f_maxConstraints, f_maxDepth, f_variables, f_space, f_failed, f_terms, f_cells, f_constraints, f_level, f_mode, f_found, f_exhausted, f_hasCurrent, f_objective, f_pending, f_matched, f_depth, f_guided, f_bounded, a_dom, a_watch, a_order, a_direction, a_termA, a_termV, a_cellX, a_kind, a_relation, a_constant, a_first, a_second, a_size, a_number, a_scope, a_savedDom, a_savedConstraints, a_decidedVariable, a_decidedValue, a_current, a_work, a_sums, a_grown, a_image, a_mate, a_parent, a_queue, a_reach, a_frames, a_left) (nI c) := by
  obtain ⟨hT, hz1, ⟨l1, l2, l3, l4, l5⟩, hz2, hb, hfi, hbn⟩ := fd_WF2 w hkd
  have e2 : (nI c).toNatClampNeg = c := pk_cl c
  have f1 : a_first c = nI (fd_fi (a_kind, a_relation, a_constant, a_first, a_second, a_size, a_number, a_scope) c) := hfi
  have f2 : a_relation c = nI (fd_rl (a_kind, a_relation, a_constant, a_first, a_second, a_size, a_number, a_scope) c) := l1
  refine ⟨pk_in c 13 hc, ?_⟩
  rw [e2]
  refine nm_r f1 ⟨pk_in c 13 hc, nm_r f2 ⟨pk_in c 13 hc, nm_e (nm_r (fd_ol_x l2) (fd_xopp l2 rfl ⟨l3, l4⟩ (fun K' hK' => ?_)))⟩⟩
  refine fd_xalways (rl := fd_rl (a_kind, a_relation, a_constant, a_first, a_second, a_size, a_number, a_scope) c) (k := fd_ct (a_kind, a_relation, a_constant, a_first, a_second, a_size, a_number, a_scope) c) hT hn hc hz1 rfl l2 rfl (by omega) hW hsp (fun r S g hr => ?_)
  rcases hr with ⟨rfl, hall⟩ | ⟨rfl, a, ha, hno⟩
  · refine br_f (by decide) (fd_xrei56 (a_sums := S) (a_grown := g) w hkd hn hc hW hsp rfl hK' (fun d => ?_) (fun r W' p' S g hN hR => h r W' p' S g hN hR))
    rw [b_0]
    constructor
    · intro q; exact absurd q (by decide)
    · rintro ⟨_, a, ha, q⟩; exact absurd (hall a ha) q
  · refine br_t rfl (nm_e (fd_xrei56 (a_sums := S) (a_grown := g) w hkd hn hc hW hsp rfl hK' (fun d => ?_) (fun r W' p' S g hN hR => h r W' p' S g hN hR)))
    rw [b_or, b_0, Bool.false_or, fd_bt1]
    exact ⟨fun q => ⟨q, a, ha, hno⟩, fun q => q.1⟩
end
theorem fd_ofI {x : Int32} (h : 0 ≤ x.toInt) : x = nI x.toInt.toNat := by
  have := x.toInt_lt
  rw [← Int32.toInt_inj, nI_toInt (by omega)]; omega
section
variable {n : Nat} {G : fd_FC} {c : Nat} {W : Nat → Int32}
theorem fd_el_i (w : fd_WF n G c) (hkd : fd_kd G c = 4) (hW : fd_NE n W) {d : Nat} : fd_PJ n W (fd_H G c) (fd_fi G c) d ↔ (d < fd_sz G c ∧ bt (W (fd_fi G c)) d = true ∧ bt (W (fd_se G c)) (fd_nu G c d).toNat = true) := by
  obtain ⟨w1, _, w2, _, w3, _, _, _, w4⟩ := fd_WF4 w hkd
  constructor
  · rintro ⟨a, ha, hH, e⟩
    obtain ⟨p, q⟩ := (fd_H4 hkd).mp hH
    rw [e] at p q
    have x := ha _ w1
    have y := ha _ w2
    rw [e] at x
    refine ⟨p, x, ?_⟩
    have : (fd_nu G c d).toNat = a (fd_se G c) := by omega
    rw [this]; exact y
  · rintro ⟨p, x, y⟩
    refine ⟨_, fd_In_up (fd_In_up (fd_In_lo hW) y) x, (fd_H4 hkd).mpr ?_, fd_up_s _ _ _⟩
    rw [fd_up_s, fd_up_n _ (Ne.symm w3), fd_up_s]
    have := w4 d p
    exact ⟨p, by omega⟩
theorem fd_el_r (w : fd_WF n G c) (hkd : fd_kd G c = 4) (hW : fd_NE n W) {e : Nat} : fd_PJ n W (fd_H G c) (fd_se G c) e ↔ ∃ d, d < fd_sz G c ∧ bt (W (fd_fi G c)) d = true ∧ bt (W (fd_se G c)) (fd_nu G c d).toNat = true ∧ e = (fd_nu G c d).toNat := by
  obtain ⟨w1, _, w2, _, w3, _, _, _, w4⟩ := fd_WF4 w hkd
  constructor
  · rintro ⟨a, ha, hH, e'⟩
    obtain ⟨p, q⟩ := (fd_H4 hkd).mp hH
    have y := ha _ w2
    have : (fd_nu G c (a (fd_fi G c))).toNat = a (fd_se G c) := by omega
    exact ⟨_, p, ha _ w1, by rw [this]; exact y, by rw [this, e']⟩
  · rintro ⟨d, p, x, y, z⟩
    refine ⟨_, fd_In_up (fd_In_up (fd_In_lo hW) y) x, (fd_H4 hkd).mpr ?_, ?_⟩
    · rw [fd_up_s, fd_up_n _ (Ne.symm w3), fd_up_s]
      have := w4 d p
      exact ⟨p, by omega⟩
    · rw [fd_up_n _ (Ne.symm w3), fd_up_s, z]
end
section
variable {f_objectiveSlot f_maxVariables f_maxConstraints f_maxDepth f_variables f_space f_failed f_terms f_cells f_constraints f_level f_mode f_found f_exhausted f_hasCurrent f_objective f_pending : Int32} {f_matched : Int64} {f_depth f_guided f_bounded : Int32} {a_dom a_watch a_order a_direction a_termA a_termV a_cellX a_kind a_relation a_constant a_first a_second a_size a_number a_scope a_savedDom a_savedConstraints a_decidedVariable a_decidedValue a_current a_work a_sums a_grown : Nat → Int32} {a_image : Nat → Int64} {a_mate a_parent a_queue a_reach a_frames a_left : Nat → Int32} {post : Int32 → SX → Prop} {n : Nat}
theorem fd_xel29 {c : Nat} (w : fd_WF n (a_kind, a_relation, a_constant, a_first, a_second, a_size, a_number, a_scope) c) (hkd : fd_kd (a_kind, a_relation, a_constant, a_first, a_second, a_size, a_number, a_scope) c = 4) (hn : n ≤ 8) (hc : c < 13) (hW : fd_NE n a_work)
    (h : ∀ r W' p', fd_Nar n a_watch a_work f_pending W' p' → fd_Rev n a_work (fd_H (a_kind, a_relation, a_constant, a_first, a_second, a_size, a_number, a_scope) c) r W' → post r (f_objectiveSlot, f_maxVariables, f_maxConstraints, f_maxDepth, f_variables, f_space, f_failed, f_terms, f_cells, f_constraints, f_level, f_mode, f_found, f_exhausted, f_hasCurrent, f_objective, p', f_matched, f_depth, f_guided, f_bounded, a_dom, a_watch, a_order, a_direction, a_termA, a_termV, a_cellX, a_kind, a_relation, a_constant, a_first, a_second, a_size, a_number, a_scope, a_savedDom, a_savedConstraints, a_decidedVariable, a_decidedValue, a_current, W', a_sums, a_grown, a_image, a_mate, a_parent, a_queue, a_reach, a_frames, a_left)) :
    ∀ t i, i + t = fd_sz (a_kind, a_relation, a_constant, a_first, a_second, a_size, a_number, a_scope) c → ∀ x5 x6 : Int32, (∀ d, bt x5 d = true ↔ (d < i ∧ bt (a_work (fd_fi (a_kind, a_relation, a_constant, a_first, a_second, a_size, a_number, a_scope) c)) d = true ∧ bt (a_work (fd_se (a_kind, a_relation, a_constant, a_first, a_second, a_size, a_number, a_scope) c)) (fd_nu (a_kind, a_relation, a_constant, a_first, a_second, a_size, a_number, a_scope) c d).toNat = true)) → (∀ e, bt x6 e = true ↔ ∃ d, d < i ∧ bt (a_work (fd_fi (a_kind, a_relation, a_constant, a_first, a_second, a_size, a_number, a_scope) c)) d = true ∧ bt (a_work (fd_se (a_kind, a_relation, a_constant, a_first, a_second, a_size, a_number, a_scope) c)) (fd_nu (a_kind, a_relation, a_constant, a_first, a_second, a_size, a_number, a_scope) c d).toNat = true ∧ e = (fd_nu (a_kind, a_relation, a_constant, a_first, a_second, a_size, a_number, a_scope) c d).toNat) → ∀ q, t < q → wX_filterElement_29 post (nI c) (nI (16 * c)) (nI (fd_fi (a_kind, a_relation, a_constant, a_first, a_second, a_size, a_number, a_scope) c)) (nI (fd_se (a_kind, a_relation, a_constant, a_first, a_second, a_size, a_number, a_scope) c)) f_objectiveSlot f_maxVariables f_maxConstraints f_maxDepth f_variables f_space f_failed f_terms f_cells f_constraints f_level f_mode f_found f_exhausted f_hasCurrent f_objective f_pending f_matched f_depth f_guided f_bounded a_dom a_watch a_order a_direction a_termA a_termV a_cellX a_kind a_relation a_constant a_first a_second a_size a_number a_scope a_savedDom a_savedConstraints a_decidedVariable a_decidedValue a_current a_work a_sums a_grown a_image a_mate a_parent a_queue a_reach a_frames a_left q x5 x6 (nI i) := by
  obtain ⟨w1, f1, w2, f2, w3, w5, w6, hz, w4⟩ := fd_WF4 w hkd
  have hz' : a_size c = nI (fd_sz (a_kind, a_relation, a_constant, a_first, a_second, a_size, a_number, a_scope) c) := hz
  have e2 : (nI c).toNatClampNeg = c := pk_cl c
  have eF : (nI (fd_fi (a_kind, a_relation, a_constant, a_first, a_second, a_size, a_number, a_scope) c)).toNatClampNeg = fd_fi (a_kind, a_relation, a_constant, a_first, a_second, a_size, a_number, a_scope) c := pk_cl _
  have eS : (nI (fd_se (a_kind, a_relation, a_constant, a_first, a_second, a_size, a_number, a_scope) c)).toNatClampNeg = fd_se (a_kind, a_relation, a_constant, a_first, a_second, a_size, a_number, a_scope) c := pk_cl _
  intro t
  induction t with
  | zero =>
    intro i hi x5 x6 h5 h6 q hq
    obtain ⟨q, rfl⟩ : ∃ q', q = q' + 1 := ⟨q - 1, by omega⟩
    have e : i = fd_sz (a_kind, a_relation, a_constant, a_first, a_second, a_size, a_number, a_scope) c := by omega
    subst e
    refine ⟨pk_in c 13 hc, ?_⟩
    rw [e2, hz']
    refine pk_le (fd_sz (a_kind, a_relation, a_constant, a_first, a_second, a_size, a_number, a_scope) c) (fd_sz (a_kind, a_relation, a_constant, a_first, a_second, a_size, a_number, a_scope) c) (fun _ => ?_) (fun c => absurd c (by omega))
    have k5 : ∀ d, bt (a_work (fd_fi (a_kind, a_relation, a_constant, a_first, a_second, a_size, a_number, a_scope) c)) d = true → (bt x5 d = true ↔ fd_PJ n a_work (fd_H (a_kind, a_relation, a_constant, a_first, a_second, a_size, a_number, a_scope) c) (fd_fi (a_kind, a_relation, a_constant, a_first, a_second, a_size, a_number, a_scope) c) d) := fun d _ => by rw [h5 d, fd_el_i w hkd hW]
    have k6 : ∀ d, bt (a_work (fd_se (a_kind, a_relation, a_constant, a_first, a_second, a_size, a_number, a_scope) c)) d = true → (bt x6 d = true ↔ fd_PJ n a_work (fd_H (a_kind, a_relation, a_constant, a_first, a_second, a_size, a_number, a_scope) c) (fd_se (a_kind, a_relation, a_constant, a_first, a_second, a_size, a_number, a_scope) c) d) := fun d _ => by rw [h6 d, fd_el_r w hkd hW]
    refine fd_xnar w1 hn (fun r p' hN hr => ?_)
    have M1 : fd_Mid n a_work (fd_H (a_kind, a_relation, a_constant, a_first, a_second, a_size, a_number, a_scope) c) (upd a_work (fd_fi (a_kind, a_relation, a_constant, a_first, a_second, a_size, a_number, a_scope) c) (a_work (fd_fi (a_kind, a_relation, a_constant, a_first, a_second, a_size, a_number, a_scope) c) &&& x5)) := fd_Mid_1 w1 fd_Mid_rf (fun d hd hp => (k5 d hd).mpr hp)
    rcases hr with ⟨rfl, z⟩ | ⟨rfl, z⟩
    · refine br_t rfl (h 0 _ p' hN (Or.inr ⟨rfl, fun a ha hH => ?_⟩))
      have b := fd_eq0.mp z (a (fd_fi (a_kind, a_relation, a_constant, a_first, a_second, a_size, a_number, a_scope) c))
      rw [b_and, ha _ w1, (k5 _ (ha _ w1)).mpr ⟨a, ha, hH, rfl⟩] at b
      exact absurd b (by decide)
    · refine br_f (by decide) (fd_xnar w2 hn (fun r p'' hN' hr => ?_))
      have eu : upd a_work (fd_fi (a_kind, a_relation, a_constant, a_first, a_second, a_size, a_number, a_scope) c) (a_work (fd_fi (a_kind, a_relation, a_constant, a_first, a_second, a_size, a_number, a_scope) c) &&& x5) (fd_se (a_kind, a_relation, a_constant, a_first, a_second, a_size, a_number, a_scope) c) = a_work (fd_se (a_kind, a_relation, a_constant, a_first, a_second, a_size, a_number, a_scope) c) := pk_un (Ne.symm w3)
      rw [eu] at hr hN' ⊢
      have M2 := fd_Mid_1 (k := x6) w2 M1 (fun d hd hp => (k6 d (by rw [eu] at hd; exact hd)).mpr hp)
      rw [eu] at M2
      rcases hr with ⟨rfl, z2⟩ | ⟨rfl, z2⟩
      · refine br_t rfl (h 0 _ p'' (fd_Nar_tr hN hN') (Or.inr ⟨rfl, fun a ha hH => ?_⟩))
        have b := fd_eq0.mp z2 (a (fd_se (a_kind, a_relation, a_constant, a_first, a_second, a_size, a_number, a_scope) c))
        rw [b_and, ha _ w2, (k6 _ (ha _ w2)).mpr ⟨a, ha, hH, rfl⟩] at b
        exact absurd b (by decide)
      · obtain ⟨d0, hd0⟩ := fd_ne0.mp z
        rw [b_and, Bool.and_eq_true] at hd0
        obtain ⟨a0, i0, h0, _⟩ := (k5 d0 hd0.1).mp hd0.2
        refine br_f (by decide) (h 1 _ p'' (fd_Nar_tr hN hN') (fd_fin (S := fd_Sc (a_kind, a_relation, a_constant, a_first, a_second, a_size, a_number, a_scope) c) (fun a b hab ha => fd_dep w hab ha) M2 (fun v hv hS d hd => ?_) a0 i0 h0))
        by_cases e : v = fd_se (a_kind, a_relation, a_constant, a_first, a_second, a_size, a_number, a_scope) c
        · subst e
          rw [pk_us, b_and, Bool.and_eq_true] at hd
          exact (k6 d hd.1).mp hd.2
        · rw [pk_un e] at hd
          have e1 : v = fd_fi (a_kind, a_relation, a_constant, a_first, a_second, a_size, a_number, a_scope) c := by
            rcases hS with ⟨_, q | q⟩ | ⟨q, _⟩ | ⟨q, _⟩
            · exact q
            · exact absurd q e
            · exact absurd hkd q
            · rw [hkd] at q; exact absurd q (by decide)
          subst e1
          rw [pk_us, b_and, Bool.and_eq_true] at hd
          exact (k5 d hd.1).mp hd.2
  | succ t ih =>
    intro i hi x5 x6 h5 h6 q hq
    obtain ⟨q, rfl⟩ : ∃ q', q = q' + 1 := ⟨q - 1, by omega⟩
    refine ⟨pk_in c 13 hc, ?_⟩
    rw [e2, hz']
    refine pk_le (fd_sz (a_kind, a_relation, a_constant, a_first, a_second, a_size, a_number, a_scope) c) i (fun c => absurd c (by omega)) (fun _ => ?_)
    have e3 : (nI (16 * c + i)).toNatClampNeg = 16 * c + i := pk_cl _
    have hv := w4 i (by omega)
    have en : a_number (16 * c + i) = nI (fd_nu (a_kind, a_relation, a_constant, a_first, a_second, a_size, a_number, a_scope) c i).toNat := fd_ofI hv.1
    have hN32 : (fd_nu (a_kind, a_relation, a_constant, a_first, a_second, a_size, a_number, a_scope) c i).toNat < 32 := by omega
    rw [nI_add, e3, en, eF, eS]
    have skip5 : ¬ (bt (a_work (fd_fi (a_kind, a_relation, a_constant, a_first, a_second, a_size, a_number, a_scope) c)) i = true ∧ bt (a_work (fd_se (a_kind, a_relation, a_constant, a_first, a_second, a_size, a_number, a_scope) c)) (fd_nu (a_kind, a_relation, a_constant, a_first, a_second, a_size, a_number, a_scope) c i).toNat = true) → ∀ d, bt x5 d = true ↔ (d < i + 1 ∧ bt (a_work (fd_fi (a_kind, a_relation, a_constant, a_first, a_second, a_size, a_number, a_scope) c)) d = true ∧ bt (a_work (fd_se (a_kind, a_relation, a_constant, a_first, a_second, a_size, a_number, a_scope) c)) (fd_nu (a_kind, a_relation, a_constant, a_first, a_second, a_size, a_number, a_scope) c d).toNat = true) := by
      intro hno d
      rw [h5 d]
      constructor
      · rintro ⟨a, b⟩; exact ⟨by omega, b⟩
      · rintro ⟨a, b⟩
        by_cases e : d = i
        · subst e; exact absurd b hno
        · exact ⟨by omega, b⟩
    have skip6 : ¬ (bt (a_work (fd_fi (a_kind, a_relation, a_constant, a_first, a_second, a_size, a_number, a_scope) c)) i = true ∧ bt (a_work (fd_se (a_kind, a_relation, a_constant, a_first, a_second, a_size, a_number, a_scope) c)) (fd_nu (a_kind, a_relation, a_constant, a_first, a_second, a_size, a_number, a_scope) c i).toNat = true) → ∀ e, bt x6 e = true ↔ ∃ d, d < i + 1 ∧ bt (a_work (fd_fi (a_kind, a_relation, a_constant, a_first, a_second, a_size, a_number, a_scope) c)) d = true ∧ bt (a_work (fd_se (a_kind, a_relation, a_constant, a_first, a_second, a_size, a_number, a_scope) c)) (fd_nu (a_kind, a_relation, a_constant, a_first, a_second, a_size, a_number, a_scope) c d).toNat = true ∧ e = (fd_nu (a_kind, a_relation, a_constant, a_first, a_second, a_size, a_number, a_scope) c d).toNat := by
      intro hno d
      rw [h6 d]
      constructor
      · rintro ⟨d, a, b⟩; exact ⟨d, by omega, b⟩
      · rintro ⟨d, a, b⟩
        by_cases e : d = i
        · subst e; exact absurd ⟨b.1, b.2.1⟩ hno
        · exact ⟨d, by omega, b⟩
    refine ⟨pk_in (16 * c + i) 208 (by omega), nm_e ⟨fd_in8 (by omega), ?_⟩⟩
    by_cases hb : bt (a_work (fd_fi (a_kind, a_relation, a_constant, a_first, a_second, a_size, a_number, a_scope) c)) i = true
    · refine br_f ((fd_nbit _ (by omega)).mpr hb) ⟨fd_in8 (by omega), ?_⟩
      by_cases hb2 : bt (a_work (fd_se (a_kind, a_relation, a_constant, a_first, a_second, a_size, a_number, a_scope) c)) (fd_nu (a_kind, a_relation, a_constant, a_first, a_second, a_size, a_number, a_scope) c i).toNat = true
      · refine br_f ((fd_nbit _ hN32).mpr hb2) (nm_e (nm_e (nm_r (nI_1 i) (ih (i + 1) (by omega) _ _ (fun d => ?_) (fun e => ?_) q (by omega)))))
        · rw [fd_or1 x5 (by omega), Bool.or_eq_true, h5 d, decide_eq_true_iff]
          constructor
          · rintro (⟨a, b⟩ | e)
            · exact ⟨by omega, b⟩
            · subst e; exact ⟨by omega, hb, hb2⟩
          · rintro ⟨a, b⟩
            by_cases e : d = i
            · exact Or.inr e
            · exact Or.inl ⟨by omega, b⟩
        · rw [fd_or1 x6 hN32, Bool.or_eq_true, h6 e, decide_eq_true_iff]
          constructor
          · rintro (⟨d, a, b⟩ | e)
            · exact ⟨d, by omega, b⟩
            · exact ⟨i, by omega, hb, hb2, e⟩
          · rintro ⟨d, a, b⟩
            by_cases e : d = i
            · subst e; exact Or.inr b.2.2
            · exact Or.inl ⟨d, by omega, b⟩
      · exact br_t ((fd_bit _ hN32).mpr (by simpa using hb2)) (nm_r (nI_1 i) (ih (i + 1) (by omega) _ _ (skip5 (fun y => hb2 y.2)) (skip6 (fun y => hb2 y.2)) q (by omega)))
    · exact br_t ((fd_bit _ (by omega)).mpr (by simpa using hb)) (nm_r (nI_1 i) (ih (i + 1) (by omega) _ _ (skip5 (fun y => hb y.1)) (skip6 (fun y => hb y.1)) q (by omega)))
theorem fd_xelement {c : Nat} (w : fd_WF n (a_kind, a_relation, a_constant, a_first, a_second, a_size, a_number, a_scope) c) (hkd : fd_kd (a_kind, a_relation, a_constant, a_first, a_second, a_size, a_number, a_scope) c = 4) (hn : n ≤ 8) (hc : c < 13) (hW : fd_NE n a_work)
    (h : ∀ r W' p', fd_Nar n a_watch a_work f_pending W' p' → fd_Rev n a_work (fd_H (a_kind, a_relation, a_constant, a_first, a_second, a_size, a_number, a_scope) c) r W' → post r (f_objectiveSlot, f_maxVariables, f_maxConstraints, f_maxDepth, f_variables, f_space, f_failed, f_terms, f_cells, f_constraints, f_level, f_mode, f_found, f_exhausted, f_hasCurrent, f_objective, p', f_matched, f_depth, f_guided, f_bounded, a_dom, a_watch, a_order, a_direction, a_termA, a_termV, a_cellX, a_kind, a_relation, a_constant, a_first, a_second, a_size, a_number, a_scope, a_savedDom, a_savedConstraints, a_decidedVariable, a_decidedValue, a_current, W', a_sums, a_grown, a_image, a_mate, a_parent, a_queue, a_reach, a_frames, a_left)) : wpX_filterElement post (f_objectiveSlot, f_maxVariables, f_maxConstraints, f_maxDepth, f_variables, f_space, f_failed, f_terms, f_cells, f_constraints, f_level, f_mode, f_found, f_exhausted, f_hasCurrent, f_objective, f_pending, f_matched, f_depth, f_guided, f_bounded, a_dom, a_watch, a_order, a_direction, a_termA, a_termV, a_cellX, a_kind, a_relation, a_constant, a_first, a_second, a_size, a_number, a_scope, a_savedDom, a_savedConstraints, a_decidedVariable, a_decidedValue, a_current, a_work, a_sums, a_grown, a_image, a_mate, a_parent, a_queue, a_reach, a_frames, a_left) (nI c) := by
  obtain ⟨w1, f1, w2, f2, w3, w5, w6, hz, w4⟩ := fd_WF4 w hkd
  have e1 : nI c * 16 = nI (16 * c) := by
    have e : nI c * 16 = nI (c * 16) := pk_mul c 16
    rw [e, Nat.mul_comm]
  have e2 : (nI c).toNatClampNeg = c := pk_cl c
  have f1' : a_first c = nI (fd_fi (a_kind, a_relation, a_constant, a_first, a_second, a_size, a_number, a_scope) c) := f1
  have f2' : a_second c = nI (fd_se (a_kind, a_relation, a_constant, a_first, a_second, a_size, a_number, a_scope) c) := f2
  refine nm_r e1 ⟨pk_in c 13 hc, ?_⟩
  rw [e2]
  refine nm_r f1' ⟨pk_in c 13 hc, nm_r f2' ⟨fd_sz (a_kind, a_relation, a_constant, a_first, a_second, a_size, a_number, a_scope) c + 1, ?_⟩⟩
  refine fd_xel29 w hkd hn hc hW h (fd_sz (a_kind, a_relation, a_constant, a_first, a_second, a_size, a_number, a_scope) c) 0 (by omega) 0 0 (fun d => ?_) (fun e => ?_) _ (by omega)
  · rw [b_0]; constructor
    · intro q; exact absurd q (by decide)
    · intro q; exact absurd q.1 (by omega)
  · rw [b_0]; constructor
    · intro q; exact absurd q (by decide)
    · rintro ⟨d, q, _⟩; omega
end
end
section
/-! ===== matchings ===== -/
/-- f takes different members of the sets I 0 .. I (N-1) -/
def fd_TV (N : Nat) (I : Nat → Nat → Prop) (f : Nat → Nat) : Prop := (∀ j, j < N → I j (f j)) ∧ (∀ i j, i < N → j < N → f i = f j → i = j)
/-- a closed set of terms whose members find only numbers of the set: the numbers are used up by it -/
theorem fd_hall {N : Nat} {I : Nat → Nat → Prop} {M f : Nat → Nat} {S : Nat → Prop} (hf : fd_TV N I f) (hS : ∀ u, S u → u < N) (hc : ∀ u x, S u → I u x → ∃ k, S k ∧ M k = x) (k0 : Nat) (h0 : S k0) : ∃ u, S u ∧ ∃ k, S k ∧ k = k0 ∧ M k = f u := by
  have dec := fun u => Classical.propDecidable (S u)
  have ex : ∀ u, ∃ k, (S u → S k ∧ M k = f u) ∧ (¬ S u → k = u) := by
    intro u
    by_cases h : S u
    · obtain ⟨k, a, b⟩ := hc u (f u) h (hf.1 u (hS u h))
      exact ⟨k, fun _ => ⟨a, b⟩, fun x => absurd h x⟩
    · exact ⟨u, fun x => absurd x h, fun _ => rfl⟩
  have ⟨g, hg⟩ : ∃ g : Nat → Nat, ∀ u, (S u → S (g u) ∧ M (g u) = f u) ∧ (¬ S u → g u = u) := ⟨fun u => Classical.choose (ex u), fun u => Classical.choose_spec (ex u)⟩
  obtain ⟨u, hu, e⟩ := fd_pig N g (fun i hi => by
    by_cases h : S i
    · exact hS _ ((hg i).1 h).1
    · rw [(hg i).2 h]; exact hi) (fun i j hi hj e => by
    by_cases h : S i
    · by_cases h2 : S j
      · refine hf.2 i j hi hj ?_
        rw [← ((hg i).1 h).2, ← ((hg j).1 h2).2, e]
      · have := ((hg i).1 h).1
        rw [e, (hg j).2 h2] at this
        exact absurd this h2
    · by_cases h2 : S j
      · have := ((hg j).1 h2).1
        rw [← e, (hg i).2 h] at this
        exact absurd this h
      · rw [(hg i).2 h, (hg j).2 h2] at e; exact e) k0 (hS k0 h0)
  have hSu : S u := Classical.byContradiction (fun h => by
    rw [(hg u).2 h] at e; rw [e] at h; exact h h0)
  exact ⟨u, hSu, g u, ((hg u).1 hSu).1, e, ((hg u).1 hSu).2⟩
/-- (A) the search for a number of `start` failed: there is no transversal -/
theorem fd_hallA {N : Nat} {I : Nat → Nat → Prop} {M : Nat → Nat} {S : Nat → Prop} {start : Nat} (h0 : S start) (hS : ∀ u, S u → u < N) (hc : ∀ u x, S u → I u x → ∃ k, S k ∧ k ≠ start ∧ M k = x) (f : Nat → Nat) : ¬ fd_TV N I f := by
  intro hf
  have dec := fun u => Classical.propDecidable (S u)
  have ex : ∀ u, ∃ k, (S u → S k ∧ k ≠ start ∧ M k = f u) ∧ (¬ S u → k = u) := by
    intro u
    by_cases h : S u
    · obtain ⟨k, a, b⟩ := hc u (f u) h (hf.1 u (hS u h))
      exact ⟨k, fun _ => ⟨a, b⟩, fun x => absurd h x⟩
    · exact ⟨u, fun x => absurd x h, fun _ => rfl⟩
  have ⟨g, hg⟩ : ∃ g : Nat → Nat, ∀ u, (S u → S (g u) ∧ g u ≠ start ∧ M (g u) = f u) ∧ (¬ S u → g u = u) := ⟨fun u => Classical.choose (ex u), fun u => Classical.choose_spec (ex u)⟩
  obtain ⟨u, hu, e⟩ := fd_pig N g (fun i hi => by
    by_cases h : S i
    · exact hS _ ((hg i).1 h).1
    · rw [(hg i).2 h]; exact hi) (fun i j hi hj e => by
    by_cases h : S i
    · by_cases h2 : S j
      · refine hf.2 i j hi hj ?_
        rw [← ((hg i).1 h).2.2, ← ((hg j).1 h2).2.2, e]
      · have := ((hg i).1 h).1
        rw [e, (hg j).2 h2] at this
        exact absurd this h2
    · by_cases h2 : S j
      · have := ((hg j).1 h2).1
        rw [← e, (hg i).2 h] at this
        exact absurd this h
      · rw [(hg i).2 h, (hg j).2 h2] at e; exact e) start (hS start h0)
  by_cases h : S u
  · exact ((hg u).1 h).2.1 e
  · rw [(hg u).2 h] at e; rw [e] at h; exact h h0
/-- (B) a closed set without j keeps its numbers from j -/
theorem fd_hallB {N : Nat} {I : Nat → Nat → Prop} {M f : Nat → Nat} {S : Nat → Prop} {j k0 : Nat} (hf : fd_TV N I f) (h0 : S k0) (hS : ∀ u, S u → u < N) (hc : ∀ u x, S u → I u x → ∃ k, S k ∧ M k = x) (hj : ¬ S j) (hjN : j < N) : f j ≠ M k0 := by
  intro e
  obtain ⟨u, hu, k, hk, e1, e2⟩ := fd_hall hf hS hc k0 h0
  rw [e1, ← e] at e2
  have := hf.2 j u hjN (hS u hu) e2
  exact hj (this ▸ hu)
/-! paths -/
def fd_Pt (E : Nat → Nat → Prop) : Nat → Nat → Nat → Prop
  | 0, u, w => u = w
  | l + 1, u, w => ∃ x, fd_Pt E l u x ∧ E x w
theorem fd_Pt_tr {E : Nat → Nat → Prop} : ∀ l k u v w, fd_Pt E k u v → fd_Pt E l v w → fd_Pt E (k + l) u w := by
  intro l
  induction l with
  | zero => intro k u v w h1 h2; have : v = w := h2; subst this; exact h1
  | succ l ih => intro k u v w h1 ⟨x, h2, h3⟩; exact ⟨x, ih k u v x h1 h2, h3⟩
theorem fd_Pt_1 {E : Nat → Nat → Prop} {u w : Nat} (h : E u w) : fd_Pt E 1 u w := ⟨u, rfl, h⟩
theorem fd_Pt_mv {E E' : Nat → Nat → Prop} {k u : Nat} (hE : ∀ x w, w ≠ u → E x w → E' x w) : ∀ l w, (∀ l', l' ≤ l → ¬ fd_Pt E l' k u) → fd_Pt E l k w → fd_Pt E' l k w := by
  intro l
  induction l with
  | zero => intro w _ h; exact h
  | succ l ih =>
    intro w hno h
    obtain ⟨x, h1, h2⟩ := h
    have hw : w ≠ u := fun e => hno (l + 1) (Nat.le_refl _) (e ▸ ⟨x, h1, h2⟩)
    exact ⟨x, ih x (fun l' hl => hno l' (by omega)) h1, hE x w hw h2⟩
/-- (C0) a path from k to a term that sees a free number: the matching can be moved along it -/
theorem fd_augm {I : Nat → Nat → Prop} {A : Nat → Prop} {X k : Nat} (hk : ¬ A k) : ∀ l (f : Nat → Nat), (∀ u, A u → I u (f u) ∧ f u ≠ X) → (∀ u w, A u → A w → f u = f w → u = w) → (∃ u y, fd_Pt (fun x w => A w ∧ I x (f w)) l k u ∧ I u y ∧ y ≠ X ∧ (∀ w, A w → f w ≠ y)) → ∃ g : Nat → Nat, (∀ u, (A u ∨ u = k) → I u (g u) ∧ g u ≠ X) ∧ (∀ u w, (A u ∨ u = k) → (A w ∨ w = k) → g u = g w → u = w) := by
  intro l
  induction l using Nat.strongRecOn with
  | ind l ih =>
    intro f h1 h2 ⟨u, y, hp, hI, hX, hfr⟩
    by_cases hmin : ∃ l', l' < l ∧ ∃ u y, fd_Pt (fun x w => A w ∧ I x (f w)) l' k u ∧ I u y ∧ y ≠ X ∧ (∀ w, A w → f w ≠ y)
    · obtain ⟨l', hl, hx⟩ := hmin
      exact ih l' hl f h1 h2 hx
    · cases l with
      | zero =>
        have e : k = u := hp
        subst e
        refine ⟨fd_up f k y, fun u hu => ?_, fun u w hu hw e => ?_⟩
        · by_cases q : u = k
          · rw [q, fd_up_s]; exact ⟨hI, hX⟩
          · rw [fd_up_n f q]; exact h1 u (hu.elim id (fun x => absurd x q))
        · by_cases q : u = k
          · by_cases q2 : w = k
            · rw [q, q2]
            · rw [q, fd_up_s, fd_up_n f q2] at e
              exact absurd e.symm (hfr w (hw.elim id (fun x => absurd x q2)))
          · by_cases q2 : w = k
            · rw [q2, fd_up_s, fd_up_n f q] at e
              exact absurd e (hfr u (hu.elim id (fun x => absurd x q)))
            · rw [fd_up_n f q, fd_up_n f q2] at e
              exact h2 u w (hu.elim id (fun x => absurd x q)) (hw.elim id (fun x => absurd x q2)) e
      | succ l =>
        obtain ⟨w, hp, hA, hIw⟩ := hp
        have hno : ∀ l', l' ≤ l → ¬ fd_Pt (fun x w => A w ∧ I x (f w)) l' k u := fun l' hl hq => hmin ⟨l', by omega, u, y, hq, hI, hX, hfr⟩
        have hIw' : I w (f u) := hIw
        refine ih l (by omega) (fd_up f u y) (fun v hv => ?_) (fun v v' hv hv' e => ?_) ⟨w, f u, fd_Pt_mv (u := u) (fun x v hv hE => ⟨hE.1, by rw [fd_up_n f hv]; exact hE.2⟩) l w hno hp, hIw', (h1 u hA).2, fun v hv => ?_⟩
        · by_cases q : v = u
          · rw [q, fd_up_s]; exact ⟨hI, hX⟩
          · rw [fd_up_n f q]; exact h1 v hv
        · by_cases q : v = u
          · by_cases q2 : v' = u
            · rw [q, q2]
            · rw [q, fd_up_s, fd_up_n f q2] at e; exact absurd e.symm (hfr v' hv')
          · by_cases q2 : v' = u
            · rw [q2, fd_up_s, fd_up_n f q] at e; exact absurd e (hfr v hv)
            · rw [fd_up_n f q, fd_up_n f q2] at e; exact h2 v v' hv hv' e
        · by_cases q : v = u
          · rw [q, fd_up_s]; exact fun e => hfr u hA e.symm
          · rw [fd_up_n f q]; exact fun e => q (h2 v u hv hA e)
/-- (C) a number of k0 that can be freed belongs to a transversal at j -/
theorem fd_swap {N : Nat} {I : Nat → Nat → Prop} {M : Nat → Nat} {j k0 e l : Nat} (hM : fd_TV N I M) (hj : j < N) (hk : k0 < N) (hI : I j (M k0)) (hp : fd_Pt (fun u w => w < N ∧ I u (M w)) l k0 e) (he : e = j ∨ ∃ y, I e y ∧ ∀ m, m < N → M m ≠ y) : ∃ f, fd_TV N I f ∧ f j = M k0 := by
  by_cases q : k0 = j
  · exact ⟨M, hM, by rw [q]⟩
  · have key : ∀ l w, fd_Pt (fun u w => w < N ∧ I u (M w)) l k0 w → (∃ l' u y, fd_Pt (fun x w => (w < N ∧ w ≠ j ∧ w ≠ k0) ∧ I x (M w)) l' k0 u ∧ I u y ∧ y ≠ M k0 ∧ (∀ w, (w < N ∧ w ≠ j ∧ w ≠ k0) → M w ≠ y)) ∨ (∃ l', fd_Pt (fun x w => (w < N ∧ w ≠ j ∧ w ≠ k0) ∧ I x (M w)) l' k0 w) := by
      intro l
      induction l with
      | zero => intro w h; exact Or.inr ⟨0, h⟩
      | succ l ih =>
        intro w ⟨x, h1, h2, h3⟩
        rcases ih x h1 with h | ⟨l', h⟩
        · exact Or.inl h
        · by_cases c : w = j
          · subst c
            exact Or.inl ⟨l', x, M w, h, h3, fun z => q (hM.2 k0 w hk h2 z.symm), fun v hv z => hv.2.1 (hM.2 v w hv.1 h2 z)⟩
          · by_cases c2 : w = k0
            · exact Or.inr ⟨0, c2.symm⟩
            · exact Or.inr ⟨l' + 1, x, h, ⟨h2, c, c2⟩, h3⟩
    have fin : ∃ l' u y, fd_Pt (fun x w => (w < N ∧ w ≠ j ∧ w ≠ k0) ∧ I x (M w)) l' k0 u ∧ I u y ∧ y ≠ M k0 ∧ (∀ w, (w < N ∧ w ≠ j ∧ w ≠ k0) → M w ≠ y) := by
      rcases key l e hp with h | ⟨l', h⟩
      · exact h
      · rcases he with he | ⟨y, hy, hm⟩
        · subst he
          cases l' with
          | zero => have : k0 = e := h
                    exact absurd this q
          | succ l' => obtain ⟨x, _, hx⟩ := h
                       exact absurd rfl hx.1.2.1
        · exact ⟨l', e, y, h, hy, fun z => hm k0 hk z.symm, fun w hw => hm w hw.1⟩
    obtain ⟨l', u, y, h⟩ := fin
    obtain ⟨g, g1, g2⟩ := fd_augm (I := I) (A := fun w => w < N ∧ w ≠ j ∧ w ≠ k0) (X := M k0) (k := k0) (fun x => x.2.2 rfl) l' M (fun u hu => ⟨hM.1 u hu.1, fun z => hu.2.2 (hM.2 u k0 hu.1 hk z)⟩) (fun u w hu hw e => hM.2 u w hu.1 hw.1 e) ⟨u, y, h⟩
    have cov : ∀ u, u < N → u ≠ j → (u < N ∧ u ≠ j ∧ u ≠ k0) ∨ u = k0 := fun u hu hne => by
      by_cases c : u = k0
      · exact Or.inr c
      · exact Or.inl ⟨hu, hne, c⟩
    refine ⟨fd_up g j (M k0), ⟨fun u hu => ?_, fun u w hu hw e => ?_⟩, fd_up_s _ _ _⟩
    · by_cases c : u = j
      · rw [c, fd_up_s]; exact hI
      · rw [fd_up_n g c]; exact (g1 u (cov u hu c)).1
    · by_cases c : u = j
      · by_cases c2 : w = j
        · rw [c, c2]
        · rw [c, fd_up_s, fd_up_n g c2] at e
          exact absurd e.symm (g1 w (cov w hw c2)).2
      · by_cases c2 : w = j
        · rw [c2, fd_up_s, fd_up_n g c] at e
          exact absurd e (g1 u (cov u hu c)).2
        · rw [fd_up_n g c, fd_up_n g c2] at e
          exact g2 u w (cov u hu c) (cov w hw c2) e
/-- what keepMatchable keeps for j is just what some transversal takes at j -/
theorem fd_keep {N : Nat} {I R : Nat → Nat → Prop} {M : Nat → Nat} {j x : Nat} (hM : fd_TV N I M) (hj : j < N) (hx : I j x)
    (r0 : ∀ k, k < N → R k k) (r1 : ∀ k m, k < N → m < N → I k (M m) → R k m) (r2 : ∀ k y m, k < N → y < N → m < N → R k y → R y m → R k m) (r3 : ∀ k m, k < N → R k m → m < N ∧ ∃ l, fd_Pt (fun u w => w < N ∧ I u (M w)) l k m) :
    (∃ f, fd_TV N I f ∧ f j = x) ↔ ((∀ m, m < N → M m ≠ x) ∨ x = M j ∨ ∃ k, k < N ∧ x = M k ∧ ∃ e, R k e ∧ (e = j ∨ ∃ y, I e y ∧ ∀ m, m < N → M m ≠ y)) := by
  constructor
  · rintro ⟨f, hf, e⟩
    by_cases c : ∀ m, m < N → M m ≠ x
    · exact Or.inl c
    · have : ∃ k, k < N ∧ M k = x := Classical.byContradiction (fun q => c (fun m hm e => q ⟨m, hm, e⟩))
      obtain ⟨k, hk, ek⟩ := this
      refine Or.inr (Or.inr ⟨k, hk, ek.symm, ?_⟩)
      apply Classical.byContradiction
      intro q
      refine fd_hallB (M := M) (S := fun m => m < N ∧ R k m) (j := j) (k0 := k) hf ⟨hk, r0 k hk⟩ (fun u hu => hu.1) (fun u y hu hy => ?_) (fun hs => q ⟨j, hs.2, Or.inl rfl⟩) hj (by rw [e, ek])
      have : ∃ m, m < N ∧ M m = y := Classical.byContradiction (fun z => q ⟨u, hu.2, Or.inr ⟨y, hy, fun m hm e => z ⟨m, hm, e⟩⟩⟩)
      obtain ⟨m, hm, em⟩ := this
      exact ⟨m, ⟨hm, r2 k u m hk hu.1 hm hu.2 (r1 u m hu.1 hm (by rw [em]; exact hy))⟩, em⟩
  · rintro (h | h | ⟨k, hk, e, w, hR, hw⟩)
    · refine ⟨fd_up M j x, ⟨fun u hu => ?_, fun u w hu hw e => ?_⟩, fd_up_s _ _ _⟩
      · by_cases c : u = j
        · rw [c, fd_up_s]; exact hx
        · rw [fd_up_n M c]; exact hM.1 u hu
      · by_cases c : u = j
        · by_cases c2 : w = j
          · rw [c, c2]
          · rw [c, fd_up_s, fd_up_n M c2] at e; exact absurd e.symm (h w hw)
        · by_cases c2 : w = j
          · rw [c2, fd_up_s, fd_up_n M c] at e; exact absurd e (h u hu)
          · rw [fd_up_n M c, fd_up_n M c2] at e; exact hM.2 u w hu hw e
    · exact ⟨M, hM, h.symm⟩
    · obtain ⟨_, l, hp⟩ := r3 k w hk hR
      obtain ⟨f, hf, e2⟩ := fd_swap hM hj hk (by rw [← e]; exact hx) hp hw
      exact ⟨f, hf, by rw [e2, e]⟩
end
section
/-! ===== longs by their bits; the images of all-different ===== -/
def fd_bl (x : Int64) (i : Nat) : Bool := x.toBitVec.getLsbD i
theorem fd_lext {x y : Int64} (h : ∀ i, i < 64 → fd_bl x i = fd_bl y i) : x = y := Int64.toBitVec_inj.mp (BitVec.eq_of_getLsbD_eq (fun i hi => h i hi))
theorem fd_lor (x y : Int64) (i : Nat) : fd_bl (x ||| y) i = (fd_bl x i || fd_bl y i) := by unfold fd_bl; rw [Int64.toBitVec_or, BitVec.getLsbD_or]
theorem fd_land (x y : Int64) (i : Nat) : fd_bl (x &&& y) i = (fd_bl x i && fd_bl y i) := by unfold fd_bl; rw [Int64.toBitVec_and, BitVec.getLsbD_and]
theorem fd_lxor (x y : Int64) (i : Nat) : fd_bl (x ^^^ y) i = (fd_bl x i ^^ fd_bl y i) := by unfold fd_bl; rw [Int64.toBitVec_xor, BitVec.getLsbD_xor]
theorem fd_lbig {x : Int64} {i : Nat} (h : 64 ≤ i) : fd_bl x i = false := BitVec.getLsbD_of_ge _ _ h
theorem fd_l0 (i : Nat) : fd_bl 0 i = false := BitVec.getLsbD_zero
theorem fd_lm1 : ∀ i, i < 64 → fd_bl (-1) i = true := by decide +kernel
theorem fd_lxm (x : Int64) {i : Nat} (hi : i < 64) : fd_bl (x ^^^ (-1)) i = !fd_bl x i := by rw [fd_lxor, fd_lm1 i hi, Bool.xor_true]
theorem fd_llt {x : Int64} {i : Nat} (h : fd_bl x i = true) : i < 64 := by
  rcases Nat.lt_or_ge i 64 with e | e
  · exact e
  · rw [fd_lbig e] at h; exact absurd h (by decide)
theorem fd_leq0 {x : Int64} : x = 0 ↔ ∀ i, fd_bl x i = false := by
  constructor
  · intro e d; rw [e, fd_l0]
  · intro h; apply fd_lext; intro i _; rw [h, fd_l0]
theorem fd_lne0 {x : Int64} : x ≠ 0 ↔ ∃ i, fd_bl x i = true := by
  constructor
  · intro h
    apply Classical.byContradiction
    intro c
    exact h (fd_leq0.mpr (fun i => by
      cases e : fd_bl x i with
      | false => rfl
      | true => exact absurd ⟨i, e⟩ c))
  · rintro ⟨i, h⟩ e
    rw [e, fd_l0] at h; exact absurd h (by decide)
theorem fd_lN (n : Nat) (i : Nat) : fd_bl (lN n) i = (decide (i < 64) && n.testBit i) := by
  unfold fd_bl
  rw [wb_tb, BitVec.getLsbD_ofNat]
theorem fd_l1 {x : Nat} (hx : x < 64) (i : Nat) : fd_bl ((1 : Int64) <<< ((nI x).toInt64 &&& 63)) i = decide (i = x) := by
  have e : (1 : Int64) <<< ((nI x).toInt64 &&& 63) = lN (1 * 2 ^ x) := wb_shl 1 hx
  rw [e, fd_lN, Nat.one_mul, Nat.testBit_two_pow]
  by_cases q : i = x
  · subst q; simp [hx]
  · have : ¬ x = i := fun z => q z.symm
    simp [q, this]
theorem fd_lbit (m : Int64) {d : Nat} (hd : d < 64) : (m &&& ((1 : Int64) <<< ((nI d).toInt64 &&& 63))) = 0 ↔ fd_bl m d = false := by
  rw [fd_leq0]
  constructor
  · intro h
    have := h d
    rw [fd_land, fd_l1 hd, decide_eq_true rfl, Bool.and_true] at this
    exact this
  · intro h i
    rw [fd_land, fd_l1 hd]
    by_cases e : i = d
    · rw [e, h, Bool.false_and]
    · rw [decide_eq_false e, Bool.and_false]
theorem fd_lnbit (m : Int64) {d : Nat} (hd : d < 64) : ¬ (m &&& ((1 : Int64) <<< ((nI d).toInt64 &&& 63))) = 0 ↔ fd_bl m d = true := by
  rw [fd_lbit m hd]; cases fd_bl m d <;> simp
theorem fd_lor1 (m : Int64) {d : Nat} (hd : d < 64) (i : Nat) : fd_bl (m ||| ((1 : Int64) <<< ((nI d).toInt64 &&& 63))) i = (fd_bl m i || decide (i = d)) := by
  rw [fd_lor, fd_l1 hd]
theorem fd_m32 : ∀ i, i < 64 → fd_bl 4294967295 i = decide (i < 32) := by decide +kernel
theorem fd_lo32 (w : Int32) : (w.toInt64 &&& 4294967295) = lN w.toBitVec.toNat := by
  apply fd_lext
  intro i hi
  rw [fd_land, fd_m32 i hi, fd_lN]
  unfold fd_bl
  rw [Int32.toBitVec_toInt64, BitVec.getLsbD_signExtend]
  by_cases c : i < 32
  · simp [hi, c, BitVec.getLsbD]
  · have h2 : w.toBitVec.toNat.testBit i = false := Nat.testBit_lt_two_pow (Nat.lt_of_lt_of_le w.toBitVec.isLt (Nat.pow_le_pow_right (by omega) (by omega)))
    simp [c, h2]
theorem fd_shft {w : Int32} {o : Nat} (ho : o < 64) (i : Nat) (hi : i < 64) : fd_bl ((w.toInt64 &&& 4294967295) <<< ((nI o).toInt64 &&& 63)) i = (decide (o ≤ i) && bt w (i - o)) := by
  rw [fd_lo32, wb_shl _ ho, fd_lN, Nat.testBit_mul_two_pow]
  simp [hi]
  rfl
theorem fd_bnI {m d : Nat} (hd : d < 32) : bt (nI m) d = m.testBit d := by
  show (BitVec.ofNat 32 m).getLsbD d = m.testBit d
  rw [BitVec.getLsbD_ofNat]; simp [hd]
theorem fd_back {y : Int64} {o d : Nat} (ho : o < 64) (hd : d < 32) : bt ((y.toUInt64 >>> ((nI o).toInt64.toUInt64 &&& Int64.toUInt64 63)).toInt64).toInt32 d = fd_bl y (d + o) := by
  obtain ⟨m, hm, e⟩ := wb_of y
  have hlow : d + o < 64 ∨ 64 ≤ d + o := Nat.lt_or_ge _ _
  rw [e, wb_shr hm ho, lN_i, fd_bnI hd, Nat.testBit_div_two_pow, fd_lN]
  rcases hlow with h | h
  · simp [h]
  · have h2 : m.testBit (d + o) = false := Nat.testBit_lt_two_pow (Nat.lt_of_lt_of_le hm (Nat.pow_le_pow_right (by omega) h))
    rw [h2]; simp
/-- offset of term j, from 0 to 16 -/
def fd_of (G : fd_FC) (c j : Nat) : Nat := (fd_nu G c j + 8).toNat
/-- the image of term j -/
def fd_I (G : fd_FC) (c : Nat) (W : Nat → Int32) (j x : Nat) : Prop := fd_of G c j ≤ x ∧ bt (W (fd_sp G c j)) (x - fd_of G c j) = true
section
variable {n : Nat} {G : fd_FC} {c : Nat} {W : Nat → Int32}
theorem fd_of_le (hT : fd_Tm n G c) {j : Nat} (hj : j < fd_sz G c) : fd_of G c j ≤ 16 ∧ (fd_of G c j : Int) = fd_nu G c j + 8 := by
  obtain ⟨_, _, a, b⟩ := hT.2.2.1 j hj
  unfold fd_of; omega
theorem fd_I_lt (hT : fd_Tm n G c) {j x : Nat} (hj : j < fd_sz G c) (h : fd_I G c W j x) : x < 48 := by
  have a := (fd_of_le hT hj).1
  have b := fd_lt h.2
  have := h.1
  omega
/-- values for all terms at once -/
theorem fd_asg (hT : fd_Tm n G c) (hW : fd_NE n W) (e : Nat → Nat) (he : ∀ j, j < fd_sz G c → bt (W (fd_sp G c j)) (e j) = true) : ∃ a, fd_In n W a ∧ (∀ j, j < fd_sz G c → a (fd_sp G c j) = e j) := by
  have key : ∀ m, m ≤ fd_sz G c → ∃ a, fd_In n W a ∧ (∀ j, j < m → a (fd_sp G c j) = e j) := by
    intro m
    induction m with
    | zero => intro _; exact ⟨_, fd_In_lo hW, fun j hj => by omega⟩
    | succ m ih =>
      intro hm
      obtain ⟨a, ha, h⟩ := ih (by omega)
      refine ⟨fd_up a (fd_sp G c m) (e m), fd_In_up ha (he m (by omega)), fun j hj => ?_⟩
      by_cases q : j = m
      · rw [q, fd_up_s]
      · rw [fd_up_n a (fun x => q (hT.2.2.2 j m (by omega) (by omega) x)), h j (by omega)]
  exact key _ (Nat.le_refl _)
theorem fd_TV_of (hkd : fd_kd G c = 3) (hT : fd_Tm n G c) {a : Nat → Nat} (ha : fd_In n W a) (hH : fd_H G c a) : fd_TV (fd_sz G c) (fd_I G c W) (fun j => a (fd_sp G c j) + fd_of G c j) := by
  refine ⟨fun j hj => ⟨Nat.le_add_left _ _, ?_⟩, fun i j hi hj e => ?_⟩
  · show bt _ (a (fd_sp G c j) + fd_of G c j - fd_of G c j) = true
    rw [Nat.add_sub_cancel]; exact ha _ (hT.2.2.1 j hj).1
  · have e : a (fd_sp G c i) + fd_of G c i = a (fd_sp G c j) + fd_of G c j := e
    have h := (fd_H3 hkd).mp hH
    have o1 := (fd_of_le hT hi).2
    have o2 := (fd_of_le hT hj).2
    rcases Nat.lt_trichotomy i j with q | q | q
    · exact absurd (by omega) (h i j q hj)
    · exact q
    · exact absurd (by omega) (h j i q hi)
theorem fd_TV_to (hkd : fd_kd G c = 3) (hT : fd_Tm n G c) (hW : fd_NE n W) {f : Nat → Nat} (hf : fd_TV (fd_sz G c) (fd_I G c W) f) : ∃ a, fd_In n W a ∧ fd_H G c a ∧ ∀ j, j < fd_sz G c → f j = a (fd_sp G c j) + fd_of G c j := by
  obtain ⟨a, ha, h⟩ := fd_asg hT hW (fun j => f j - fd_of G c j) (fun j hj => (hf.1 j hj).2)
  have hfa : ∀ j, j < fd_sz G c → f j = a (fd_sp G c j) + fd_of G c j := fun j hj => by
    have x := h j hj
    have y := (hf.1 j hj).1
    omega
  refine ⟨a, ha, (fd_H3 hkd).mpr (fun i j hij hj e => ?_), hfa⟩
  have o1 := (fd_of_le hT (j := i) (by omega)).2
  have o2 := (fd_of_le hT hj).2
  have f1 := hfa i (by omega)
  have f2 := hfa j hj
  have := hf.2 i j (by omega) hj (by omega)
  omega
theorem fd_TV_PJ (hkd : fd_kd G c = 3) (hT : fd_Tm n G c) (hW : fd_NE n W) {j d : Nat} (hj : j < fd_sz G c) : fd_PJ n W (fd_H G c) (fd_sp G c j) d ↔ ∃ f, fd_TV (fd_sz G c) (fd_I G c W) f ∧ f j = d + fd_of G c j := by
  constructor
  · rintro ⟨a, ha, hH, e⟩
    exact ⟨_, fd_TV_of hkd hT ha hH, by show a (fd_sp G c j) + _ = _; rw [e]⟩
  · rintro ⟨f, hf, e⟩
    obtain ⟨a, ha, hH, h⟩ := fd_TV_to hkd hT hW hf
    exact ⟨a, ha, hH, by have := h j hj; omega⟩
end
/-- numbers below N, all different: at most N -/
theorem fd_inj_le {N t : Nat} {f : Nat → Nat} (h1 : ∀ i, i < t → f i < N) (h2 : ∀ i j, i < t → j < t → f i = f j → i = j) : t ≤ N := by
  rcases Nat.lt_or_ge N t with h | h
  · obtain ⟨i, hi, e⟩ := fd_pig N f (fun i hi => h1 i (by omega)) (fun i j hi hj => h2 i j (by omega) (by omega)) (f N) (h1 N h)
    have := h2 i N (by omega) h e
    omega
  · exact h
end
section
/-! ===== X: rematch, augment ===== -/
/-- mates of the terms below s, of N terms; md: the numbers in use -/
def fd_MT (I : Nat → Nat → Prop) (N s : Nat) (mt : Nat → Int32) (md : Int64) : Prop :=
  (∀ k, k < s → mt k = nI (mt k).toNatClampNeg ∧ (mt k).toNatClampNeg < 48 ∧ I k (mt k).toNatClampNeg) ∧
  (∀ i k, i < s → k < s → (mt i).toNatClampNeg = (mt k).toNatClampNeg → i = k) ∧
  (∀ k, s ≤ k → k < N → mt k = -1) ∧
  (∀ x, fd_bl md x = true ↔ ∃ k, k < s ∧ (mt k).toNatClampNeg = x)
/-- breadth-first search from s: Q 0 .. Q (t-1) found, the first h of them done -/
def fd_BF (I : Nat → Nat → Prop) (N s : Nat) (mt : Nat → Int32) (h t : Nat) (seen : Int32) (qu pa : Nat → Int32) (Q : Nat → Nat) : Prop :=
  1 ≤ t ∧ Q 0 = s ∧ (∀ i, i < t → qu i = nI (Q i) ∧ Q i < N) ∧ (∀ i j, i < t → j < t → Q i = Q j → i = j) ∧
  (∀ k, bt seen k = true ↔ ∃ i, i < t ∧ Q i = k) ∧
  (∀ i, 0 < i → i < t → Q i < s ∧ ∃ i', i' < i ∧ pa (Q i) = nI (Q i') ∧ I (Q i') (mt (Q i)).toNatClampNeg) ∧
  (∀ i, i < h → ∀ k, k < s → I (Q i) (mt k).toNatClampNeg → bt seen k = true) ∧
  (∀ i, i < h → ∀ x, I (Q i) x → ∃ k, k < s ∧ (mt k).toNatClampNeg = x)
section
variable {f_objectiveSlot f_maxVariables f_maxConstraints f_maxDepth f_variables f_space f_failed f_terms f_cells f_constraints f_level f_mode f_found f_exhausted f_hasCurrent f_objective f_pending : Int32} {f_matched : Int64} {f_depth f_guided f_bounded : Int32} {a_dom a_watch a_order a_direction a_termA a_termV a_cellX a_kind a_relation a_constant a_first a_second a_size a_number a_scope a_savedDom a_savedConstraints a_decidedVariable a_decidedValue a_current a_work a_sums a_grown : Nat → Int32} {a_image : Nat → Int64} {a_mate a_parent a_queue a_reach a_frames a_left : Nat → Int32} {I : Nat → Nat → Prop} {N s : Nat} {Q : Nat → Nat}
theorem fd_xrem52 {post : SX → Prop} {mt0 : Nat → Int32} {h0 : Nat} (hN : N ≤ 8) (hs : s < N) (hQ0 : Q 0 = s) (hQi : ∀ i j, i ≤ h0 → j ≤ h0 → Q i = Q j → i = j) (hpar : ∀ i, 0 < i → i ≤ h0 → Q i < s ∧ ∃ i', i' < i ∧ a_parent (Q i) = nI (Q i') ∧ I (Q i') (mt0 (Q i)).toNatClampNeg)
    (h : ∀ mt', fd_MT I N (s + 1) mt' f_matched → post (f_objectiveSlot, f_maxVariables, f_maxConstraints, f_maxDepth, f_variables, f_space, f_failed, f_terms, f_cells, f_constraints, f_level, f_mode, f_found, f_exhausted, f_hasCurrent, f_objective, f_pending, f_matched, f_depth, f_guided, f_bounded, a_dom, a_watch, a_order, a_direction, a_termA, a_termV, a_cellX, a_kind, a_relation, a_constant, a_first, a_second, a_size, a_number, a_scope, a_savedDom, a_savedConstraints, a_decidedVariable, a_decidedValue, a_current, a_work, a_sums, a_grown, a_image, mt', a_parent, a_queue, a_reach, a_frames, a_left)) :
    ∀ p, p ≤ h0 → ∀ hop, hop + p ≤ 7 → ∀ (mt : Nat → Int32) (w : Nat),
      (∀ k, k < s → mt k = nI (mt k).toNatClampNeg ∧ (mt k).toNatClampNeg < 48 ∧ I k (mt k).toNatClampNeg) →
      (∀ i k, i < s → k < s → (mt i).toNatClampNeg = (mt k).toNatClampNeg → i = k) →
      (w < 48 ∧ I (Q p) w ∧ ∀ k, k < s → (mt k).toNatClampNeg ≠ w) →
      (∀ x, fd_bl f_matched x = true ↔ (x = w ∨ ∃ k, k < s ∧ (mt k).toNatClampNeg = x)) →
      (∀ i, 0 < i → i ≤ p → mt (Q i) = mt0 (Q i)) → (∀ k, s < k → k < N → mt k = -1) →
      ∀ q, p < q → wX_rematch_52 post (nI s) f_objectiveSlot f_maxVariables f_maxConstraints f_maxDepth f_variables f_space f_failed f_terms f_cells f_constraints f_level f_mode f_found f_exhausted f_hasCurrent f_objective f_pending f_matched f_depth f_guided f_bounded q (nI w) (nI (Q p)) (nI hop) a_dom a_watch a_order a_direction a_termA a_termV a_cellX a_kind a_relation a_constant a_first a_second a_size a_number a_scope a_savedDom a_savedConstraints a_decidedVariable a_decidedValue a_current a_work a_sums a_grown a_image mt a_parent a_queue a_reach a_frames a_left := by
  intro p
  induction p using Nat.strongRecOn with
  | ind p ih =>
    intro hp hop hh mt w ha hi hw hm hd he q hq
    obtain ⟨q, rfl⟩ : ∃ q', q = q' + 1 := ⟨q - 1, by omega⟩
    have hQp : Q p ≤ s := by
      rcases Nat.eq_zero_or_pos p with e | e
      · rw [e, hQ0]; exact Nat.le_refl _
      · exact Nat.le_of_lt (hpar p e hp).1
    have ec : (nI (Q p)).toNatClampNeg = Q p := pk_cl _
    refine pk_le 8 hop (fun c => absurd c (by omega)) (fun _ => ?_)
    refine ⟨pk_in (Q p) 8 (by omega), ?_⟩
    rw [ec]
    refine nm_e ⟨pk_in (Q p) 8 (by omega), nm_e ?_⟩
    have ew : (nI w).toNatClampNeg = w := pk_cl _ (h := by omega)
    refine pk_eq (Q p) s (fun e => h _ ?_) (fun e => ?_)
    · rw [e]
      refine ⟨fun k hk => ?_, fun i k hik hk e2 => ?_, fun k hk hkN => ?_, fun x => ?_⟩
      · by_cases c : k = s
        · rw [c, pk_us, ew]; rw [e] at hw; exact ⟨rfl, hw.1, hw.2.1⟩
        · rw [pk_un c]; exact ha k (by omega)
      · by_cases c : i = s
        · by_cases c2 : k = s
          · rw [c, c2]
          · rw [c, pk_us, ew, pk_un c2] at e2; exact absurd e2.symm (hw.2.2 k (by omega))
        · by_cases c2 : k = s
          · rw [c2, pk_us, ew, pk_un c] at e2; exact absurd e2 (hw.2.2 i (by omega))
          · rw [pk_un c, pk_un c2] at e2; exact hi i k (by omega) (by omega) e2
      · rw [pk_un (by omega)]; exact he k (by omega) hkN
      · rw [hm x]
        constructor
        · rintro (z | ⟨k, hk, z⟩)
          · exact ⟨s, by omega, by rw [pk_us, ew]; exact z.symm⟩
          · exact ⟨k, by omega, by rw [pk_un (by omega)]; exact z⟩
        · rintro ⟨k, hk, z⟩
          by_cases c : k = s
          · rw [c, pk_us, ew] at z; exact Or.inl z.symm
          · rw [pk_un c] at z; exact Or.inr ⟨k, by omega, z⟩
    · have hp0 : 0 < p := by
        rcases Nat.eq_zero_or_pos p with c | c
        · rw [c] at e; exact absurd hQ0 e
        · exact c
      obtain ⟨u1, p', u2, u3, u4⟩ := hpar p hp0 hp
      have em := hd p hp0 (Nat.le_refl _)
      have ha' := ha (Q p) u1
      refine ⟨pk_in (Q p) 8 (by omega), nm_r u3 (nm_r (nI_1 hop) ?_)⟩
      rw [ha'.1]
      refine ih p' u2 (by omega) (hop + 1) (by omega) _ _ (fun k hk => ?_) (fun i k hik hk e2 => ?_) ⟨ha'.2.1, by rw [em]; exact u4, fun k hk => ?_⟩ (fun x => ?_) (fun i hi0 hip => ?_) (fun k hk hkN => ?_) q (by omega)
      · by_cases c : k = Q p
        · rw [c, pk_us, ew]; exact ⟨rfl, hw.1, hw.2.1⟩
        · rw [pk_un c]; exact ha k hk
      · by_cases c : i = Q p
        · by_cases c2 : k = Q p
          · rw [c, c2]
          · rw [c, pk_us, ew, pk_un c2] at e2; exact absurd e2.symm (hw.2.2 k hk)
        · by_cases c2 : k = Q p
          · rw [c2, pk_us, ew, pk_un c] at e2; exact absurd e2 (hw.2.2 i hik)
          · rw [pk_un c, pk_un c2] at e2; exact hi i k hik hk e2
      · by_cases c : k = Q p
        · rw [c, pk_us, ew]; exact fun z => hw.2.2 (Q p) u1 z.symm
        · rw [pk_un c]; exact fun z => c (hi k (Q p) hk u1 z)
      · rw [hm x]
        constructor
        · rintro (z | ⟨k, hk, z⟩)
          · exact Or.inr ⟨Q p, u1, by rw [pk_us, ew]; exact z.symm⟩
          · by_cases c : k = Q p
            · rw [c] at z; exact Or.inl z.symm
            · exact Or.inr ⟨k, hk, by rw [pk_un c]; exact z⟩
        · rintro (z | ⟨k, hk, z⟩)
          · exact Or.inr ⟨Q p, u1, z.symm⟩
          · by_cases c : k = Q p
            · rw [c, pk_us, ew] at z; exact Or.inl z.symm
            · rw [pk_un c] at z; exact Or.inr ⟨k, hk, z⟩
      · rw [pk_un (fun z => by have := hQi i p (by omega) hp z; omega)]
        exact hd i hi0 (by omega)
      · rw [pk_un (by omega)]; exact he k hk hkN
theorem fd_xrem7 {post : SX → Prop} {x1 x2 : Int32} {fr : Int64} (h : ∀ w, w < 48 → fd_bl fr w = true → ∃ q, wX_rematch_52 post x1 f_objectiveSlot f_maxVariables f_maxConstraints f_maxDepth f_variables f_space f_failed f_terms f_cells f_constraints f_level f_mode f_found f_exhausted f_hasCurrent f_objective f_pending (f_matched ||| ((1 : Int64) <<< ((nI w).toInt64 &&& 63))) f_depth f_guided f_bounded q (nI w) x2 0 a_dom a_watch a_order a_direction a_termA a_termV a_cellX a_kind a_relation a_constant a_first a_second a_size a_number a_scope a_savedDom a_savedConstraints a_decidedVariable a_decidedValue a_current a_work a_sums a_grown a_image a_mate a_parent a_queue a_reach a_frames a_left) :
    ∀ i w, i ≤ 48 → w < 48 → (fd_bl fr w = true ∨ ∃ x, x < i ∧ fd_bl fr x = true) → ∀ q, i < q → wX_rematch_7 post x1 x2 fr f_objectiveSlot f_maxVariables f_maxConstraints f_maxDepth f_variables f_space f_failed f_terms f_cells f_constraints f_level f_mode f_found f_exhausted f_hasCurrent f_objective f_pending f_matched f_depth f_guided f_bounded a_dom a_watch a_order a_direction a_termA a_termV a_cellX a_kind a_relation a_constant a_first a_second a_size a_number a_scope a_savedDom a_savedConstraints a_decidedVariable a_decidedValue a_current a_work a_sums a_grown a_image a_mate a_parent a_queue a_reach a_frames a_left q (nI w) (nI i + (-1)) := by
  intro i
  induction i with
  | zero =>
    intro w hi hw hf q hq
    obtain ⟨q, rfl⟩ : ∃ q', q = q' + 1 := ⟨q - 1, by omega⟩
    have hb : fd_bl fr w = true := hf.elim id (fun ⟨x, hx, _⟩ => absurd hx (by omega))
    exact br_t (by decide) (nm_e (h w hw hb))
  | succ i ih =>
    intro w hi hw hf q hq
    obtain ⟨q, rfl⟩ : ∃ q', q = q' + 1 := ⟨q - 1, by omega⟩
    rw [pk_m1]
    refine br_f (nI_pos (by omega)) ?_
    by_cases hb : fd_bl fr i = true
    · exact br_f ((fd_lnbit fr (by omega)).mpr hb) (nm_e (ih i (by omega) (by omega) (Or.inl hb) q (by omega)))
    · refine br_t ((fd_lbit fr (by omega)).mpr (by simpa using hb)) (nm_e (ih w (by omega) hw ?_ q (by omega)))
      rcases hf with hf | ⟨x, hx, hxb⟩
      · exact Or.inl hf
      · refine Or.inr ⟨x, ?_, hxb⟩
        have : x ≠ i := fun e => hb (e ▸ hxb)
        omega
theorem fd_xrematch {post : SX → Prop} {h0 t : Nat} {seen : Int32} (hN : N ≤ 8) (hs : s < N) (hMT : fd_MT I N s a_mate f_matched) (hBF : fd_BF I N s a_mate h0 t seen a_queue a_parent Q) (ht : h0 < t) (hI : ∀ j x, j < N → I j x → x < 48) (hIm : ∀ j x, j < N → (fd_bl (a_image j) x = true ↔ I j x)) (hfr : a_image (Q h0) &&& (f_matched ^^^ (-1)) ≠ 0)
    (h : ∀ mt' md', fd_MT I N (s + 1) mt' md' → post (f_objectiveSlot, f_maxVariables, f_maxConstraints, f_maxDepth, f_variables, f_space, f_failed, f_terms, f_cells, f_constraints, f_level, f_mode, f_found, f_exhausted, f_hasCurrent, f_objective, f_pending, md', f_depth, f_guided, f_bounded, a_dom, a_watch, a_order, a_direction, a_termA, a_termV, a_cellX, a_kind, a_relation, a_constant, a_first, a_second, a_size, a_number, a_scope, a_savedDom, a_savedConstraints, a_decidedVariable, a_decidedValue, a_current, a_work, a_sums, a_grown, a_image, mt', a_parent, a_queue, a_reach, a_frames, a_left)) : wpX_rematch post (f_objectiveSlot, f_maxVariables, f_maxConstraints, f_maxDepth, f_variables, f_space, f_failed, f_terms, f_cells, f_constraints, f_level, f_mode, f_found, f_exhausted, f_hasCurrent, f_objective, f_pending, f_matched, f_depth, f_guided, f_bounded, a_dom, a_watch, a_order, a_direction, a_termA, a_termV, a_cellX, a_kind, a_relation, a_constant, a_first, a_second, a_size, a_number, a_scope, a_savedDom, a_savedConstraints, a_decidedVariable, a_decidedValue, a_current, a_work, a_sums, a_grown, a_image, a_mate, a_parent, a_queue, a_reach, a_frames, a_left) (nI s) (nI (Q h0)) (a_image (Q h0) &&& (f_matched ^^^ (-1))) := by
  obtain ⟨b1, b2, b3, b4, b5, b6, b7, b8⟩ := hBF
  have hQN := (b3 h0 ht).2
  have htN : t ≤ N := fd_inj_le (fun i hi => (b3 i hi).2) b4
  obtain ⟨x0, hx0⟩ := fd_lne0.mp hfr
  have hx0' := hx0
  rw [fd_land, Bool.and_eq_true] at hx0'
  refine ⟨49, fd_xrem7 (fun w hw hb => ?_) 48 0 (by omega) (by omega) (Or.inr ⟨x0, hI _ _ hQN ((hIm _ _ hQN).mp hx0'.1), hx0⟩) 49 (by omega)⟩
  rw [fd_land, fd_lxm _ (by omega), Bool.and_eq_true] at hb
  have hnot : ∀ k, k < s → (a_mate k).toNatClampNeg ≠ w := fun k hk e => by
    have := (hMT.2.2.2 w).mpr ⟨k, hk, e⟩
    rw [this] at hb; exact absurd hb.2 (by decide)
  refine ⟨8, fd_xrem52 (mt0 := a_mate) (h0 := h0) hN hs b2 (fun i j hi hj => b4 i j (by omega) (by omega)) (fun i hi0 hi => b6 i hi0 (by omega)) (fun mt' hmt => h mt' _ hmt) h0 (Nat.le_refl _) 0 (by omega) a_mate w hMT.1 hMT.2.1 ⟨hw, (hIm _ _ hQN).mp hb.1, hnot⟩ (fun x => ?_) (fun _ _ _ => rfl) (fun k hk hkN => hMT.2.2.1 k (by omega) hkN) 8 (by omega)⟩
  rw [fd_lor1 _ (by omega), Bool.or_eq_true, decide_eq_true_iff, hMT.2.2.2 x]
  exact ⟨fun z => z.elim Or.inr Or.inl, fun z => z.elim Or.inr Or.inl⟩
variable {post : Int32 → SX → Prop}
theorem fd_xaug79 {J : Int32 → Int32 → Int32 → (Nat → Int32) → (Nat → Int32) → (Nat → Int32) → (Nat → Int32) → (Nat → Int32) → (Nat → Int32) → (Nat → Int32) → (Nat → Int32) → (Nat → Int32) → (Nat → Int32) → (Nat → Int32) → (Nat → Int32) → (Nat → Int32) → (Nat → Int32) → (Nat → Int32) → (Nat → Int32) → (Nat → Int32) → (Nat → Int32) → (Nat → Int32) → (Nat → Int32) → (Nat → Int32) → (Nat → Int32) → (Nat → Int32) → (Nat → Int64) → (Nat → Int32) → (Nat → Int32) → (Nat → Int32) → (Nat → Int32) → (Nat → Int32) → (Nat → Int32) → Prop} {h0 : Nat} (hN : N ≤ 8) (hs : s < N) (hMT : fd_MT I N s a_mate f_matched) (hIm : ∀ j x, j < N → (fd_bl (a_image j) x = true ↔ I j x)) (hfr : ∀ x, I (Q h0) x → ∃ k, k < s ∧ (a_mate k).toNatClampNeg = x)
    (h : ∀ (sn : Int32) (t : Nat) (qu pa : Nat → Int32) (Q' : Nat → Nat), t ≤ 8 → h0 + 1 ≤ t → fd_BF I N s a_mate (h0 + 1) t sn qu pa Q' → J sn (nI t) (nI (h0 + 1)) a_dom a_watch a_order a_direction a_termA a_termV a_cellX a_kind a_relation a_constant a_first a_second a_size a_number a_scope a_savedDom a_savedConstraints a_decidedVariable a_decidedValue a_current a_work a_sums a_grown a_image a_mate pa qu a_reach a_frames a_left) :
    ∀ d k, k + d = N → ∀ (sn : Int32) (t : Nat) (qu pa : Nat → Int32) (Q' : Nat → Nat), h0 < t → Q' h0 = Q h0 → fd_BF I N s a_mate h0 t sn qu pa Q' → (∀ k', k' < k → k' < s → I (Q h0) (a_mate k').toNatClampNeg → bt sn k' = true) → ∀ q, d < q → wX_augment_79 post J (nI s) (nI N) (nI h0) (nI (Q h0)) f_objectiveSlot f_maxVariables f_maxConstraints f_maxDepth f_variables f_space f_failed f_terms f_cells f_constraints f_level f_mode f_found f_exhausted f_hasCurrent f_objective f_pending f_matched f_depth f_guided f_bounded q sn (nI t) (nI k) a_dom a_watch a_order a_direction a_termA a_termV a_cellX a_kind a_relation a_constant a_first a_second a_size a_number a_scope a_savedDom a_savedConstraints a_decidedVariable a_decidedValue a_current a_work a_sums a_grown a_image a_mate pa qu a_reach a_frames a_left := by
  intro d
  induction d with
  | zero =>
    intro k hk sn t qu pa Q' ht hQ hBF hpr q hq
    obtain ⟨q, rfl⟩ : ∃ q', q = q' + 1 := ⟨q - 1, by omega⟩
    obtain ⟨b1, b2, b3, b4, b5, b6, b7, b8⟩ := hBF
    have htN : t ≤ N := fd_inj_le (fun i hi => (b3 i hi).2) b4
    refine pk_le N k (fun _ => nm_r (nI_1 h0) (h sn t qu pa Q' (by omega) (by omega) ⟨b1, b2, b3, b4, b5, b6, fun i hi k' hk' hx => ?_, fun i hi x hx => ?_⟩)) (fun c => absurd c (by omega))
    · by_cases c : i = h0
      · rw [c, hQ] at hx; exact hpr k' (by omega) hk' hx
      · exact b7 i (by omega) k' hk' hx
    · by_cases c : i = h0
      · rw [c, hQ] at hx; exact hfr x hx
      · exact b8 i (by omega) x hx
  | succ d ih =>
    intro k hk sn t qu pa Q' ht hQ hBF hpr q hq
    obtain ⟨q, rfl⟩ : ∃ q', q = q' + 1 := ⟨q - 1, by omega⟩
    have hBF' := hBF
    obtain ⟨b1, b2, b3, b4, b5, b6, b7, b8⟩ := hBF'
    have htN : t ≤ N := fd_inj_le (fun i hi => (b3 i hi).2) b4
    have hQN : Q h0 < N := by rw [← hQ]; exact (b3 h0 ht).2
    have ek : (nI k).toNatClampNeg = k := pk_cl k
    have eq0 : (nI (Q h0)).toNatClampNeg = Q h0 := pk_cl _
    refine pk_le N k (fun c => absurd c (by omega)) (fun _ => ?_)
    have skip : (k < s → I (Q h0) (a_mate k).toNatClampNeg → bt sn k = true) → wX_augment_79 post J (nI s) (nI N) (nI h0) (nI (Q h0)) f_objectiveSlot f_maxVariables f_maxConstraints f_maxDepth f_variables f_space f_failed f_terms f_cells f_constraints f_level f_mode f_found f_exhausted f_hasCurrent f_objective f_pending f_matched f_depth f_guided f_bounded q sn (nI t) (nI (k + 1)) a_dom a_watch a_order a_direction a_termA a_termV a_cellX a_kind a_relation a_constant a_first a_second a_size a_number a_scope a_savedDom a_savedConstraints a_decidedVariable a_decidedValue a_current a_work a_sums a_grown a_image a_mate pa qu a_reach a_frames a_left := fun hk0 =>
      ih (k + 1) (by omega) sn t qu pa Q' ht hQ hBF (fun k' hk' hks hx => by
        by_cases c : k' = k
        · rw [c] at hks hx ⊢; exact hk0 hks hx
        · exact hpr k' (by omega) hks hx) q (by omega)
    by_cases hsn : bt sn k = true
    · exact br_f ((fd_nbit sn (by omega)).mpr hsn) (br_t rfl (nm_r (nI_1 k) (skip (fun _ _ => hsn))))
    · refine br_t ((fd_bit sn (by omega)).mpr (by simpa using hsn)) ⟨pk_in k 8 (by omega), ?_⟩
      by_cases hks : k < s
      · obtain ⟨m1, m2, m3⟩ := hMT.1 k hks
        have hpos : ¬ a_mate k < 0 := by rw [m1]; exact nI_pos (by omega)
        refine br_f (by rw [ek]; exact hpos) ?_
        refine br_f (by decide) ⟨pk_in (Q h0) 8 (by omega), pk_in k 8 (by omega), ?_⟩
        rw [ek, eq0]
        by_cases hx : I (Q h0) (a_mate k).toNatClampNeg
        · refine br_f (by rw [m1]; exact (fd_lnbit _ (by omega)).mpr ((hIm _ _ hQN).mpr hx)) ?_
          have hfresh : ∀ i, i < t → Q' i ≠ k := fun i hi e => hsn ((b5 k).mpr ⟨i, hi, e⟩)
          have hnew : ∀ i, i < t + 1 → fd_up Q' t k i < N := fun i hi => by
            by_cases c : i = t
            · rw [c, fd_up_s]; omega
            · rw [fd_up_n Q' c]; exact (b3 i (by omega)).2
          have hinj : ∀ i j, i < t + 1 → j < t + 1 → fd_up Q' t k i = fd_up Q' t k j → i = j := fun i j hi hj e => by
            by_cases c : i = t
            · by_cases c2 : j = t
              · rw [c, c2]
              · rw [c, fd_up_s, fd_up_n Q' c2] at e; exact absurd e.symm (hfresh j (by omega))
            · by_cases c2 : j = t
              · rw [c2, fd_up_s, fd_up_n Q' c] at e; exact absurd e (hfresh i (by omega))
              · rw [fd_up_n Q' c, fd_up_n Q' c2] at e; exact b4 i j (by omega) (by omega) e
          have ht1 : t + 1 ≤ N := fd_inj_le hnew hinj
          have et : (nI t).toNatClampNeg = t := pk_cl t
          refine pk_le 8 t (fun c => absurd c (by omega)) (fun _ => ?_)
          refine nm_e ⟨pk_in k 8 (by omega), nm_e ⟨pk_in t 8 (by omega), ?_⟩⟩
          rw [et]
          refine nm_e (nm_r (nI_1 t) (nm_r (nI_1 k) (ih (k + 1) (by omega) _ (t + 1) _ _ (fd_up Q' t k) (by omega) (by rw [fd_up_n Q' (by omega)]; exact hQ) ⟨by omega, by rw [fd_up_n Q' (by omega)]; exact b2, fun i hi => ⟨?_, hnew i hi⟩, hinj, fun k' => ?_, fun i hi0 hi => ?_, fun i hi k' hk' hxx => ?_, fun i hi x hxx => ?_⟩ (fun k' hk' hks' hxx => ?_) q (by omega))))
          · by_cases c : i = t
            · rw [c, fd_up_s, pk_us]
            · rw [fd_up_n Q' c, pk_un c]; exact (b3 i (by omega)).1
          · rw [fd_or1 sn (by omega), Bool.or_eq_true, decide_eq_true_iff, b5 k']
            constructor
            · rintro (⟨i, hi, e⟩ | e)
              · exact ⟨i, by omega, by rw [fd_up_n Q' (by omega)]; exact e⟩
              · exact ⟨t, by omega, by rw [fd_up_s]; exact e.symm⟩
            · rintro ⟨i, hi, e⟩
              by_cases c : i = t
              · rw [c, fd_up_s] at e; exact Or.inr e.symm
              · rw [fd_up_n Q' c] at e; exact Or.inl ⟨i, by omega, e⟩
          · by_cases c : i = t
            · rw [c, fd_up_s, pk_us]
              exact ⟨hks, h0, by omega, by rw [fd_up_n Q' (by omega), hQ], by rw [fd_up_n Q' (by omega), hQ]; exact hx⟩
            · obtain ⟨x1, i', x2, x3, x4⟩ := b6 i hi0 (by omega)
              rw [fd_up_n Q' c]
              refine ⟨x1, i', x2, ?_, ?_⟩
              · rw [pk_un (hfresh i (by omega)), fd_up_n Q' (by omega)]; exact x3
              · rw [fd_up_n Q' (by omega)]; exact x4
          · rw [fd_up_n Q' (by omega)] at hxx
            rw [fd_or1 sn (by omega), b7 i hi k' hk' hxx]; rfl
          · rw [fd_up_n Q' (by omega)] at hxx
            exact b8 i hi x hxx
          · rw [fd_or1 sn (by omega), Bool.or_eq_true, decide_eq_true_iff]
            by_cases c : k' = k
            · exact Or.inr c
            · exact Or.inl (hpr k' (by omega) hks' hxx)
        · exact br_t (by rw [m1]; exact (fd_lbit _ (by omega)).mpr (by
            cases e : fd_bl (a_image (Q h0)) (a_mate k).toNatClampNeg with
            | false => rfl
            | true => exact absurd ((hIm _ _ hQN).mp e) hx)) (nm_r (nI_1 k) (skip (fun _ z => absurd z hx)))
      · have hneg : a_mate k < 0 := by rw [hMT.2.2.1 k (by omega) (by omega)]; decide
        exact br_t (by rw [ek]; exact hneg) (br_t rfl (nm_r (nI_1 k) (skip (fun z => absurd z hks))))
theorem fd_xaug17 (hN : N ≤ 8) (hs : s < N) (hMT : fd_MT I N s a_mate f_matched) (hI : ∀ j x, j < N → I j x → x < 48) (hIm : ∀ j x, j < N → (fd_bl (a_image j) x = true ↔ I j x))
    (h1 : ∀ mt' md' qu pa, fd_MT I N (s + 1) mt' md' → post 1 (f_objectiveSlot, f_maxVariables, f_maxConstraints, f_maxDepth, f_variables, f_space, f_failed, f_terms, f_cells, f_constraints, f_level, f_mode, f_found, f_exhausted, f_hasCurrent, f_objective, f_pending, md', f_depth, f_guided, f_bounded, a_dom, a_watch, a_order, a_direction, a_termA, a_termV, a_cellX, a_kind, a_relation, a_constant, a_first, a_second, a_size, a_number, a_scope, a_savedDom, a_savedConstraints, a_decidedVariable, a_decidedValue, a_current, a_work, a_sums, a_grown, a_image, mt', pa, qu, a_reach, a_frames, a_left)) (h0 : ∀ qu pa, (∀ f, ¬ fd_TV N I f) → post 0 (f_objectiveSlot, f_maxVariables, f_maxConstraints, f_maxDepth, f_variables, f_space, f_failed, f_terms, f_cells, f_constraints, f_level, f_mode, f_found, f_exhausted, f_hasCurrent, f_objective, f_pending, f_matched, f_depth, f_guided, f_bounded, a_dom, a_watch, a_order, a_direction, a_termA, a_termV, a_cellX, a_kind, a_relation, a_constant, a_first, a_second, a_size, a_number, a_scope, a_savedDom, a_savedConstraints, a_decidedVariable, a_decidedValue, a_current, a_work, a_sums, a_grown, a_image, a_mate, pa, qu, a_reach, a_frames, a_left)) :
    ∀ d hd, hd + d = 8 → ∀ (sn : Int32) (t : Nat) (qu pa : Nat → Int32) (Q : Nat → Nat), t ≤ 8 → hd ≤ t → fd_BF I N s a_mate hd t sn qu pa Q → ∀ q, d < q → wX_augment_17 post (nI s) (nI N) f_objectiveSlot f_maxVariables f_maxConstraints f_maxDepth f_variables f_space f_failed f_terms f_cells f_constraints f_level f_mode f_found f_exhausted f_hasCurrent f_objective f_pending f_matched f_depth f_guided f_bounded q sn (nI t) (nI hd) a_dom a_watch a_order a_direction a_termA a_termV a_cellX a_kind a_relation a_constant a_first a_second a_size a_number a_scope a_savedDom a_savedConstraints a_decidedVariable a_decidedValue a_current a_work a_sums a_grown a_image a_mate pa qu a_reach a_frames a_left := by
  intro d
  induction d with
  | zero =>
    intro hd hh sn t qu pa Q ht hht hBF q hq
    obtain ⟨q, rfl⟩ : ∃ q', q = q' + 1 := ⟨q - 1, by omega⟩
    refine pk_le t hd (fun _ => h0 qu pa ?_) (fun c => absurd c (by omega))
    obtain ⟨b1, b2, b3, b4, b5, b6, b7, b8⟩ := hBF
    exact fd_hallA (M := fun k => (a_mate k).toNatClampNeg) (S := fun k => ∃ i, i < t ∧ Q i = k) (start := s) ⟨0, b1, b2⟩ (fun u ⟨i, hi, e⟩ => by rw [← e]; exact (b3 i hi).2) (fun u x ⟨i, hi, e⟩ hx => by
      rw [← e] at hx
      obtain ⟨k, hk, ek⟩ := b8 i (by omega) x hx
      refine ⟨k, (b5 k).mp (b7 i (by omega) k hk (by rw [ek]; exact hx)), by omega, ek⟩)
  | succ d ih =>
    intro hd hh sn t qu pa Q ht hht hBF q hq
    obtain ⟨q, rfl⟩ : ∃ q', q = q' + 1 := ⟨q - 1, by omega⟩
    have hBF' := hBF
    obtain ⟨b1, b2, b3, b4, b5, b6, b7, b8⟩ := hBF'
    refine pk_le t hd (fun _ => h0 qu pa ?_) (fun hlt => ?_)
    · exact fd_hallA (M := fun k => (a_mate k).toNatClampNeg) (S := fun k => ∃ i, i < t ∧ Q i = k) (start := s) ⟨0, b1, b2⟩ (fun u ⟨i, hi, e⟩ => by rw [← e]; exact (b3 i hi).2) (fun u x ⟨i, hi, e⟩ hx => by
        rw [← e] at hx
        obtain ⟨k, hk, ek⟩ := b8 i (by omega) x hx
        refine ⟨k, (b5 k).mp (b7 i (by omega) k hk (by rw [ek]; exact hx)), by omega, ek⟩)
    · refine pk_le 8 hd (fun c => absurd c (by omega)) (fun _ => ?_)
      have ehd : (nI hd).toNatClampNeg = hd := pk_cl hd
      obtain ⟨q1, q2⟩ := b3 hd hlt
      have eQ : (nI (Q hd)).toNatClampNeg = Q hd := pk_cl _
      rw [ehd]
      refine ⟨pk_in hd 8 (by omega), nm_r q1 ⟨pk_in (Q hd) 8 (by omega), ?_⟩⟩
      rw [eQ]
      refine nm_e ?_
      by_cases z : a_image (Q hd) &&& (f_matched ^^^ (-1)) = 0
      · refine br_t z ⟨N + 1, fd_xaug79 (Q := Q) (h0 := hd) hN hs hMT hIm (fun x hx => ?_) (fun sn' t' qu' pa' Q' ht' hh' hBF'' => ih (hd + 1) (by omega) sn' t' qu' pa' Q' ht' hh' hBF'' q (by omega)) N 0 (by omega) sn t qu pa Q hlt rfl hBF (fun k' hk' => absurd hk' (by omega)) _ (by omega)⟩
        have hx48 := hI _ _ q2 hx
        have e := fd_leq0.mp z x
        rw [fd_land, (hIm _ _ q2).mpr hx, fd_lxm _ (by omega), Bool.true_and] at e
        exact (hMT.2.2.2 x).mp (by simpa using e)
      · exact br_f z (fd_xrematch (a_queue := qu) (a_parent := pa) hN hs hMT hBF hlt hI hIm z (fun mt' md' hm => h1 mt' md' qu pa hm))
theorem fd_xaugment (hN : N ≤ 8) (hs : s < N) (hMT : fd_MT I N s a_mate f_matched) (hI : ∀ j x, j < N → I j x → x < 48) (hIm : ∀ j x, j < N → (fd_bl (a_image j) x = true ↔ I j x))
    (h1 : ∀ mt' md' qu pa, fd_MT I N (s + 1) mt' md' → post 1 (f_objectiveSlot, f_maxVariables, f_maxConstraints, f_maxDepth, f_variables, f_space, f_failed, f_terms, f_cells, f_constraints, f_level, f_mode, f_found, f_exhausted, f_hasCurrent, f_objective, f_pending, md', f_depth, f_guided, f_bounded, a_dom, a_watch, a_order, a_direction, a_termA, a_termV, a_cellX, a_kind, a_relation, a_constant, a_first, a_second, a_size, a_number, a_scope, a_savedDom, a_savedConstraints, a_decidedVariable, a_decidedValue, a_current, a_work, a_sums, a_grown, a_image, mt', pa, qu, a_reach, a_frames, a_left)) (h0 : ∀ qu pa, (∀ f, ¬ fd_TV N I f) → post 0 (f_objectiveSlot, f_maxVariables, f_maxConstraints, f_maxDepth, f_variables, f_space, f_failed, f_terms, f_cells, f_constraints, f_level, f_mode, f_found, f_exhausted, f_hasCurrent, f_objective, f_pending, f_matched, f_depth, f_guided, f_bounded, a_dom, a_watch, a_order, a_direction, a_termA, a_termV, a_cellX, a_kind, a_relation, a_constant, a_first, a_second, a_size, a_number, a_scope, a_savedDom, a_savedConstraints, a_decidedVariable, a_decidedValue, a_current, a_work, a_sums, a_grown, a_image, a_mate, pa, qu, a_reach, a_frames, a_left)) : wpX_augment post (f_objectiveSlot, f_maxVariables, f_maxConstraints, f_maxDepth, f_variables, f_space, f_failed, f_terms, f_cells, f_constraints, f_level, f_mode, f_found, f_exhausted, f_hasCurrent, f_objective, f_pending, f_matched, f_depth, f_guided, f_bounded, a_dom, a_watch, a_order, a_direction, a_termA, a_termV, a_cellX, a_kind, a_relation, a_constant, a_first, a_second, a_size, a_number, a_scope, a_savedDom, a_savedConstraints, a_decidedVariable, a_decidedValue, a_current, a_work, a_sums, a_grown, a_image, a_mate, a_parent, a_queue, a_reach, a_frames, a_left) (nI s) (nI N) := by
  refine nm_e (nm_e ⟨9, fd_xaug17 hN hs hMT hI hIm h1 h0 8 0 rfl _ 1 _ a_parent (fun _ => s) (by omega) (by omega) ⟨by omega, rfl, fun i hi => ⟨?_, hs⟩, fun i j hi hj _ => by omega, fun k => ?_, fun i hi0 hi => by omega, fun i hi => by omega, fun i hi => by omega⟩ 9 (by omega)⟩)
  · have : i = 0 := by omega
    rw [this, pk_us]
  · rw [fd_b1 (by omega), decide_eq_true_iff]
    exact ⟨fun e => ⟨0, by omega, e.symm⟩, fun ⟨_, _, e⟩ => e.symm⟩
end
end
section
/-! ===== X: findReach, keepMatchable, filterAllDifferent ===== -/
def fd_E (I : Nat → Nat → Prop) (N : Nat) (mt : Nat → Int32) (u w : Nat) : Prop := w < N ∧ I u (mt w).toNatClampNeg
/-- Warshall, the first `mid` stages done -/
def fd_Wr (I : Nat → Nat → Prop) (N : Nat) (mt : Nat → Int32) (mid : Nat) (R : Nat → Int32) : Prop :=
  (∀ k, k < N → bt (R k) k = true) ∧ (∀ k m, k < N → m < N → I k (mt m).toNatClampNeg → bt (R k) m = true) ∧
  (∀ k m, k < N → bt (R k) m = true → m < N ∧ ∃ l, fd_Pt (fd_E I N mt) l k m) ∧
  (∀ k x m, k < N → x < mid → x < N → bt (R k) x = true → bt (R x) m = true → bt (R k) m = true)
theorem fd_Wr_s {I : Nat → Nat → Prop} {N : Nat} {mt : Nat → Int32} {mid : Nat} {R R' : Nat → Int32} (hm : mid < N) (h : fd_Wr I N mt mid R) (hR : ∀ k, k < N → ∀ m, bt (R' k) m = true ↔ (bt (R k) m = true ∨ (bt (R k) mid = true ∧ bt (R mid) m = true))) : fd_Wr I N mt (mid + 1) R' := by
  obtain ⟨a, b, c, d⟩ := h
  refine ⟨fun k hk => (hR k hk k).mpr (Or.inl (a k hk)), fun k m hk hm hI => (hR k hk m).mpr (Or.inl (b k m hk hm hI)), fun k m hk hb => ?_, fun k x m hk hx hxN h1 h2 => ?_⟩
  · rcases (hR k hk m).mp hb with q | ⟨q1, q2⟩
    · exact c k m hk q
    · obtain ⟨_, l1, p1⟩ := c k mid hk q1
      obtain ⟨h3, l2, p2⟩ := c mid m hm q2
      exact ⟨h3, l1 + l2, fd_Pt_tr l2 l1 k mid m p1 p2⟩
  · rw [hR k hk m]
    rw [hR k hk x] at h1
    rw [hR x hxN m] at h2
    by_cases e : x = mid
    · subst e
      have h1' : bt (R k) x = true := h1.elim id (fun z => z.1)
      have h2' : bt (R x) m = true := h2.elim id (fun z => z.2)
      exact Or.inr ⟨h1', h2'⟩
    · have hx' : x < mid := by omega
      rcases h1 with h1 | ⟨h1, h1'⟩ <;> rcases h2 with h2 | ⟨h2, h2'⟩
      · exact Or.inl (d k x m hk hx' hxN h1 h2)
      · exact Or.inr ⟨d k x mid hk hx' hxN h1 h2, h2'⟩
      · exact Or.inr ⟨h1, d mid x m hm hx' hxN h1' h2⟩
      · exact Or.inr ⟨h1, h2'⟩
section
variable {f_objectiveSlot f_maxVariables f_maxConstraints f_maxDepth f_variables f_space f_failed f_terms f_cells f_constraints f_level f_mode f_found f_exhausted f_hasCurrent f_objective f_pending : Int32} {f_matched : Int64} {f_depth f_guided f_bounded : Int32} {a_dom a_watch a_order a_direction a_termA a_termV a_cellX a_kind a_relation a_constant a_first a_second a_size a_number a_scope a_savedDom a_savedConstraints a_decidedVariable a_decidedValue a_current a_work a_sums a_grown : Nat → Int32} {a_image : Nat → Int64} {a_mate a_parent a_queue a_reach a_frames a_left : Nat → Int32} {I : Nat → Nat → Prop} {N : Nat}
theorem fd_xfr18 {post : SX → Prop} {J : Int32 → (Nat → Int32) → (Nat → Int32) → (Nat → Int32) → (Nat → Int32) → (Nat → Int32) → (Nat → Int32) → (Nat → Int32) → (Nat → Int32) → (Nat → Int32) → (Nat → Int32) → (Nat → Int32) → (Nat → Int32) → (Nat → Int32) → (Nat → Int32) → (Nat → Int32) → (Nat → Int32) → (Nat → Int32) → (Nat → Int32) → (Nat → Int32) → (Nat → Int32) → (Nat → Int32) → (Nat → Int32) → (Nat → Int32) → (Nat → Int64) → (Nat → Int32) → (Nat → Int32) → (Nat → Int32) → (Nat → Int32) → (Nat → Int32) → (Nat → Int32) → Prop} {k : Nat} {R0 : Nat → Int32} (hN : N ≤ 8) (hk : k < N) (hMT : fd_MT I N N a_mate f_matched) (hIm : ∀ j x, j < N → (fd_bl (a_image j) x = true ↔ I j x))
    (h : ∀ R, (∀ m, bt (R k) m = true ↔ (m = k ∨ (m < N ∧ I k (a_mate m).toNatClampNeg))) → (∀ k', k' ≠ k → R k' = R0 k') → J (nI (k + 1)) a_dom a_watch a_order a_direction a_termA a_termV a_cellX a_kind a_relation a_constant a_first a_second a_size a_number a_scope a_savedDom a_savedConstraints a_decidedVariable a_decidedValue a_current a_work a_sums a_grown a_image a_mate a_parent a_queue R a_frames a_left) :
    ∀ d i, i + d = N → ∀ R, (∀ m, bt (R k) m = true ↔ (m = k ∨ (m < i ∧ I k (a_mate m).toNatClampNeg))) → (∀ k', k' ≠ k → R k' = R0 k') → ∀ q, d < q → wX_findReach_18 post J (nI N) (nI k) f_objectiveSlot f_maxVariables f_maxConstraints f_maxDepth f_variables f_space f_failed f_terms f_cells f_constraints f_level f_mode f_found f_exhausted f_hasCurrent f_objective f_pending f_matched f_depth f_guided f_bounded q (nI i) a_dom a_watch a_order a_direction a_termA a_termV a_cellX a_kind a_relation a_constant a_first a_second a_size a_number a_scope a_savedDom a_savedConstraints a_decidedVariable a_decidedValue a_current a_work a_sums a_grown a_image a_mate a_parent a_queue R a_frames a_left := by
  have ek : (nI k).toNatClampNeg = k := pk_cl k
  intro d
  induction d with
  | zero =>
    intro i hi R h1 h2 q hq
    obtain ⟨q, rfl⟩ : ∃ q', q = q' + 1 := ⟨q - 1, by omega⟩
    have e : i = N := by omega
    subst e
    exact pk_le i i (fun _ => nm_r (nI_1 k) (h R h1 h2)) (fun c => absurd c (by omega))
  | succ d ih =>
    intro i hi R h1 h2 q hq
    obtain ⟨q, rfl⟩ : ∃ q', q = q' + 1 := ⟨q - 1, by omega⟩
    have ei : (nI i).toNatClampNeg = i := pk_cl i
    obtain ⟨m1, m2, m3⟩ := hMT.1 i (by omega)
    refine pk_le N i (fun c => absurd c (by omega)) (fun _ => ?_)
    rw [ek, ei]
    refine ⟨pk_in k 8 (by omega), pk_in i 8 (by omega), ?_⟩
    by_cases hx : I k (a_mate i).toNatClampNeg
    · refine br_f (by rw [m1]; exact (fd_lnbit _ (by omega)).mpr ((hIm _ _ hk).mpr hx)) ⟨pk_in k 8 (by omega), pk_in k 8 (by omega), nm_e (nm_r (nI_1 i) (ih (i + 1) (by omega) _ (fun m => ?_) (fun k' hk' => ?_) q (by omega)))⟩
      · rw [pk_us, fd_or1 _ (by omega), Bool.or_eq_true, h1 m, decide_eq_true_iff]
        constructor
        · rintro ((e | ⟨a, b⟩) | e)
          · exact Or.inl e
          · exact Or.inr ⟨by omega, b⟩
          · rw [e]; exact Or.inr ⟨by omega, hx⟩
        · rintro (e | ⟨a, b⟩)
          · exact Or.inl (Or.inl e)
          · by_cases c : m = i
            · exact Or.inr c
            · exact Or.inl (Or.inr ⟨by omega, b⟩)
      · rw [pk_un hk']; exact h2 k' hk'
    · refine br_t (by rw [m1]; exact (fd_lbit _ (by omega)).mpr (by
        cases e : fd_bl (a_image k) (a_mate i).toNatClampNeg with
        | false => rfl
        | true => exact absurd ((hIm _ _ hk).mp e) hx)) (nm_r (nI_1 i) (ih (i + 1) (by omega) R (fun m => ?_) h2 q (by omega)))
      rw [h1 m]
      constructor
      · rintro (e | ⟨a, b⟩)
        · exact Or.inl e
        · exact Or.inr ⟨by omega, b⟩
      · rintro (e | ⟨a, b⟩)
        · exact Or.inl e
        · by_cases c : m = i
          · rw [c] at b; exact absurd b hx
          · exact Or.inr ⟨by omega, b⟩
theorem fd_xfr2 {post : SX → Prop} (hN : N ≤ 8) (hMT : fd_MT I N N a_mate f_matched) (hIm : ∀ j x, j < N → (fd_bl (a_image j) x = true ↔ I j x))
    (h : ∀ R, (∀ k, k < N → ∀ m, bt (R k) m = true ↔ (m = k ∨ (m < N ∧ I k (a_mate m).toNatClampNeg))) → ∃ q, wX_findReach_69 post (nI N) f_objectiveSlot f_maxVariables f_maxConstraints f_maxDepth f_variables f_space f_failed f_terms f_cells f_constraints f_level f_mode f_found f_exhausted f_hasCurrent f_objective f_pending f_matched f_depth f_guided f_bounded q 0 a_dom a_watch a_order a_direction a_termA a_termV a_cellX a_kind a_relation a_constant a_first a_second a_size a_number a_scope a_savedDom a_savedConstraints a_decidedVariable a_decidedValue a_current a_work a_sums a_grown a_image a_mate a_parent a_queue R a_frames a_left) :
    ∀ d k, k + d = N → ∀ R, (∀ i, i < k → ∀ m, bt (R i) m = true ↔ (m = i ∨ (m < N ∧ I i (a_mate m).toNatClampNeg))) → ∀ q, d < q → wX_findReach_2 post (nI N) f_objectiveSlot f_maxVariables f_maxConstraints f_maxDepth f_variables f_space f_failed f_terms f_cells f_constraints f_level f_mode f_found f_exhausted f_hasCurrent f_objective f_pending f_matched f_depth f_guided f_bounded q (nI k) a_dom a_watch a_order a_direction a_termA a_termV a_cellX a_kind a_relation a_constant a_first a_second a_size a_number a_scope a_savedDom a_savedConstraints a_decidedVariable a_decidedValue a_current a_work a_sums a_grown a_image a_mate a_parent a_queue R a_frames a_left := by
  intro d
  induction d with
  | zero =>
    intro k hk R h1 q hq
    obtain ⟨q, rfl⟩ : ∃ q', q = q' + 1 := ⟨q - 1, by omega⟩
    exact pk_le N k (fun _ => h R (fun i hi => h1 i (by omega))) (fun c => absurd c (by omega))
  | succ d ih =>
    intro k hk R h1 q hq
    obtain ⟨q, rfl⟩ : ∃ q', q = q' + 1 := ⟨q - 1, by omega⟩
    have ek : (nI k).toNatClampNeg = k := pk_cl k
    refine pk_le N k (fun c => absurd c (by omega)) (fun _ => ⟨pk_in k 8 (by omega), ?_⟩)
    rw [ek]
    refine nm_e ⟨N + 1, fd_xfr18 (R0 := R) hN (by omega) hMT hIm (fun R' r1 r2 => ih (k + 1) (by omega) R' (fun i hi => ?_) q (by omega)) N 0 (by omega) _ (fun m => ?_) (fun k' hk' => pk_un hk') _ (by omega)⟩
    · by_cases c : i = k
      · rw [c]; exact r1
      · rw [r2 i c]; exact h1 i (by omega)
    · rw [pk_us, fd_b1 (by omega), decide_eq_true_iff]
      exact ⟨Or.inl, fun z => z.elim id (fun z => absurd z.1 (by omega))⟩
theorem fd_xfr76 {post : SX → Prop} {J : Int32 → (Nat → Int32) → (Nat → Int32) → (Nat → Int32) → (Nat → Int32) → (Nat → Int32) → (Nat → Int32) → (Nat → Int32) → (Nat → Int32) → (Nat → Int32) → (Nat → Int32) → (Nat → Int32) → (Nat → Int32) → (Nat → Int32) → (Nat → Int32) → (Nat → Int32) → (Nat → Int32) → (Nat → Int32) → (Nat → Int32) → (Nat → Int32) → (Nat → Int32) → (Nat → Int32) → (Nat → Int32) → (Nat → Int32) → (Nat → Int64) → (Nat → Int32) → (Nat → Int32) → (Nat → Int32) → (Nat → Int32) → (Nat → Int32) → (Nat → Int32) → Prop} {mid : Nat} {R0 : Nat → Int32} (hN : N ≤ 8) (hm : mid < N) (hr : bt (R0 mid) mid = true)
    (h : ∀ R, (∀ k, k < N → ∀ m, bt (R k) m = true ↔ (bt (R0 k) m = true ∨ (bt (R0 k) mid = true ∧ bt (R0 mid) m = true))) → J (nI (mid + 1)) a_dom a_watch a_order a_direction a_termA a_termV a_cellX a_kind a_relation a_constant a_first a_second a_size a_number a_scope a_savedDom a_savedConstraints a_decidedVariable a_decidedValue a_current a_work a_sums a_grown a_image a_mate a_parent a_queue R a_frames a_left) :
    ∀ d k, k + d = N → ∀ R, (∀ i, i < k → ∀ m, bt (R i) m = true ↔ (bt (R0 i) m = true ∨ (bt (R0 i) mid = true ∧ bt (R0 mid) m = true))) → (∀ i, k ≤ i → R i = R0 i) → ∀ q, d < q → wX_findReach_76 post J (nI N) (nI mid) f_objectiveSlot f_maxVariables f_maxConstraints f_maxDepth f_variables f_space f_failed f_terms f_cells f_constraints f_level f_mode f_found f_exhausted f_hasCurrent f_objective f_pending f_matched f_depth f_guided f_bounded q (nI k) a_dom a_watch a_order a_direction a_termA a_termV a_cellX a_kind a_relation a_constant a_first a_second a_size a_number a_scope a_savedDom a_savedConstraints a_decidedVariable a_decidedValue a_current a_work a_sums a_grown a_image a_mate a_parent a_queue R a_frames a_left := by
  have em : (nI mid).toNatClampNeg = mid := pk_cl mid
  intro d
  induction d with
  | zero =>
    intro k hk R h1 h2 q hq
    obtain ⟨q, rfl⟩ : ∃ q', q = q' + 1 := ⟨q - 1, by omega⟩
    exact pk_le N k (fun _ => nm_r (nI_1 mid) (h R (fun i hi => h1 i (by omega)))) (fun c => absurd c (by omega))
  | succ d ih =>
    intro k hk R h1 h2 q hq
    obtain ⟨q, rfl⟩ : ∃ q', q = q' + 1 := ⟨q - 1, by omega⟩
    have ek : (nI k).toNatClampNeg = k := pk_cl k
    have rk : R k = R0 k := h2 k (Nat.le_refl _)
    have rm : ∀ m, bt (R mid) m = bt (R0 mid) m := by
      intro m
      by_cases c : mid < k
      · cases e : bt (R0 mid) m with
        | true => exact (h1 mid c m).mpr (Or.inl e)
        | false =>
          cases e2 : bt (R mid) m with
          | false => rfl
          | true =>
            have := (h1 mid c m).mp e2
            rw [e] at this
            rcases this with z | z
            · exact absurd z (by decide)
            · exact absurd z.2 (by decide)
      · rw [h2 mid (by omega)]
    refine pk_le N k (fun c => absurd c (by omega)) (fun _ => ⟨pk_in k 8 (by omega), ?_⟩)
    rw [ek]
    by_cases hb : bt (R k) mid = true
    · refine br_f ((fd_nbit _ (by omega)).mpr hb) ⟨pk_in k 8 (by omega), pk_in mid 8 (by omega), pk_in k 8 (by omega), ?_⟩
      rw [em]
      refine nm_e (nm_r (nI_1 k) (ih (k + 1) (by omega) _ (fun i hi m => ?_) (fun i hi => ?_) q (by omega)))
      · by_cases c : i = k
        · rw [c, pk_us, b_or, Bool.or_eq_true, rm m, rk]
          rw [rk] at hb
          exact ⟨fun z => z.elim Or.inl (fun z => Or.inr ⟨hb, z⟩), fun z => z.elim Or.inl (fun z => Or.inr z.2)⟩
        · rw [pk_un c]; exact h1 i (by omega) m
      · rw [pk_un (by omega)]; exact h2 i (by omega)
    · refine br_t ((fd_bit _ (by omega)).mpr (by simpa using hb)) (nm_r (nI_1 k) (ih (k + 1) (by omega) R (fun i hi m => ?_) (fun i hi => h2 i (by omega)) q (by omega)))
      by_cases c : i = k
      · rw [c, rk]
        rw [rk] at hb
        exact ⟨Or.inl, fun z => z.elim id (fun z => absurd z.1 hb)⟩
      · exact h1 i (by omega) m
theorem fd_xfr69 {post : SX → Prop} (hN : N ≤ 8) (h : ∀ R, fd_Wr I N a_mate N R → post (f_objectiveSlot, f_maxVariables, f_maxConstraints, f_maxDepth, f_variables, f_space, f_failed, f_terms, f_cells, f_constraints, f_level, f_mode, f_found, f_exhausted, f_hasCurrent, f_objective, f_pending, f_matched, f_depth, f_guided, f_bounded, a_dom, a_watch, a_order, a_direction, a_termA, a_termV, a_cellX, a_kind, a_relation, a_constant, a_first, a_second, a_size, a_number, a_scope, a_savedDom, a_savedConstraints, a_decidedVariable, a_decidedValue, a_current, a_work, a_sums, a_grown, a_image, a_mate, a_parent, a_queue, R, a_frames, a_left)) :
    ∀ d mid, mid + d = N → ∀ R, fd_Wr I N a_mate mid R → ∀ q, d < q → wX_findReach_69 post (nI N) f_objectiveSlot f_maxVariables f_maxConstraints f_maxDepth f_variables f_space f_failed f_terms f_cells f_constraints f_level f_mode f_found f_exhausted f_hasCurrent f_objective f_pending f_matched f_depth f_guided f_bounded q (nI mid) a_dom a_watch a_order a_direction a_termA a_termV a_cellX a_kind a_relation a_constant a_first a_second a_size a_number a_scope a_savedDom a_savedConstraints a_decidedVariable a_decidedValue a_current a_work a_sums a_grown a_image a_mate a_parent a_queue R a_frames a_left := by
  intro d
  induction d with
  | zero =>
    intro mid hm R h1 q hq
    obtain ⟨q, rfl⟩ : ∃ q', q = q' + 1 := ⟨q - 1, by omega⟩
    have e : mid = N := by omega
    subst e
    exact pk_le mid mid (fun _ => h R h1) (fun c => absurd c (by omega))
  | succ d ih =>
    intro mid hm R h1 q hq
    obtain ⟨q, rfl⟩ : ∃ q', q = q' + 1 := ⟨q - 1, by omega⟩
    exact pk_le N mid (fun c => absurd c (by omega)) (fun _ => ⟨N + 1, fd_xfr76 (R0 := R) hN (by omega) (h1.1 mid (by omega)) (fun R' hR => ih (mid + 1) (by omega) R' (fd_Wr_s (by omega) h1 hR) q (by omega)) N 0 (by omega) R (fun i hi => absurd hi (by omega)) (fun _ _ => rfl) _ (by omega)⟩)
theorem fd_xfindReach {post : SX → Prop} (hN : N ≤ 8) (hMT : fd_MT I N N a_mate f_matched) (hIm : ∀ j x, j < N → (fd_bl (a_image j) x = true ↔ I j x)) (h : ∀ R, fd_Wr I N a_mate N R → post (f_objectiveSlot, f_maxVariables, f_maxConstraints, f_maxDepth, f_variables, f_space, f_failed, f_terms, f_cells, f_constraints, f_level, f_mode, f_found, f_exhausted, f_hasCurrent, f_objective, f_pending, f_matched, f_depth, f_guided, f_bounded, a_dom, a_watch, a_order, a_direction, a_termA, a_termV, a_cellX, a_kind, a_relation, a_constant, a_first, a_second, a_size, a_number, a_scope, a_savedDom, a_savedConstraints, a_decidedVariable, a_decidedValue, a_current, a_work, a_sums, a_grown, a_image, a_mate, a_parent, a_queue, R, a_frames, a_left)) : wpX_findReach post (f_objectiveSlot, f_maxVariables, f_maxConstraints, f_maxDepth, f_variables, f_space, f_failed, f_terms, f_cells, f_constraints, f_level, f_mode, f_found, f_exhausted, f_hasCurrent, f_objective, f_pending, f_matched, f_depth, f_guided, f_bounded, a_dom, a_watch, a_order, a_direction, a_termA, a_termV, a_cellX, a_kind, a_relation, a_constant, a_first, a_second, a_size, a_number, a_scope, a_savedDom, a_savedConstraints, a_decidedVariable, a_decidedValue, a_current, a_work, a_sums, a_grown, a_image, a_mate, a_parent, a_queue, a_reach, a_frames, a_left) (nI N) := by
  refine ⟨N + 1, fd_xfr2 hN hMT hIm (fun R hR => ⟨N + 1, fd_xfr69 hN h N 0 (by omega) R ⟨fun k hk => (hR k hk k).mpr (Or.inl rfl), fun k m hk hm hI => (hR k hk m).mpr (Or.inr ⟨hm, hI⟩), fun k m hk hb => ?_, fun k x m _ hx => absurd hx (by omega)⟩ _ (by omega)⟩) N 0 (by omega) a_reach (fun i hi => absurd hi (by omega)) _ (by omega)⟩
  rcases (hR k hk m).mp hb with e | ⟨a, b⟩
  · rw [e]; exact ⟨hk, 0, rfl⟩
  · exact ⟨a, 1, fd_Pt_1 ⟨a, b⟩⟩
theorem fd_MT_TV {mt : Nat → Int32} {md : Int64} (h : fd_MT I N N mt md) : fd_TV N I (fun k => (mt k).toNatClampNeg) := ⟨fun k hk => (h.1 k hk).2.2, h.2.1⟩
variable {post : Int32 → SX → Prop} {n c : Nat}
theorem fd_num8 (hT : fd_Tm n (a_kind, a_relation, a_constant, a_first, a_second, a_size, a_number, a_scope) c) {j : Nat} (hj : j < fd_sz (a_kind, a_relation, a_constant, a_first, a_second, a_size, a_number, a_scope) c) : a_number (16 * c + j) + 8 = nI (fd_of (a_kind, a_relation, a_constant, a_first, a_second, a_size, a_number, a_scope) c j) := by
  obtain ⟨_, _, t3, t4⟩ := hT.2.2.1 j hj
  have o := fd_of_le hT hj
  have hnu : fd_nu (a_kind, a_relation, a_constant, a_first, a_second, a_size, a_number, a_scope) c j = (a_number (16 * c + j)).toInt := rfl
  have e8 : (8 : Int32).toInt = 8 := rfl
  rw [← Int32.toInt_inj, fd_add (by rw [e8, ← hnu]; omega) (by rw [e8, ← hnu]; omega), e8, ← hnu, nI_toInt (by omega)]
  omega
/-- the numbers kept for j after i terms were looked at -/
def fd_Kp (N : Nat) (mt R : Nat → Int32) (lo : Int32) (j i x : Nat) : Prop := (∀ m, m < N → (mt m).toNatClampNeg ≠ x) ∨ x = (mt j).toNatClampNeg ∨ ∃ k, k < i ∧ x = (mt k).toNatClampNeg ∧ ∃ e, bt (R k) e = true ∧ (e = j ∨ bt lo e = true)
theorem fd_xkm94 {J : Int32 → Int32 → Int32 → Int32 → Int32 → Int32 → Int32 → Int32 → Int32 → Int32 → Int32 → Int32 → Int32 → Int32 → Int32 → Int32 → Int32 → Int32 → Int64 → Int32 → Int32 → Int32 → (Nat → Int32) → (Nat → Int32) → (Nat → Int32) → (Nat → Int32) → (Nat → Int32) → (Nat → Int32) → (Nat → Int32) → (Nat → Int32) → (Nat → Int32) → (Nat → Int32) → (Nat → Int32) → (Nat → Int32) → (Nat → Int32) → (Nat → Int32) → (Nat → Int32) → (Nat → Int32) → (Nat → Int32) → (Nat → Int32) → (Nat → Int32) → (Nat → Int32) → (Nat → Int32) → (Nat → Int32) → (Nat → Int32) → (Nat → Int64) → (Nat → Int32) → (Nat → Int32) → (Nat → Int32) → (Nat → Int32) → (Nat → Int32) → (Nat → Int32) → Prop} {j : Nat} {lo en : Int32} {v : Nat} (hN : N ≤ 8) (hj : j < N) (hc : 16 * c + j < 208) (hMT : fd_MT I N N a_mate f_matched) (hn : n ≤ 8) (hv : v < n) (hsc : a_scope (16 * c + j) = nI v) {o : Nat} (ho : o ≤ 16) (h8 : a_number (16 * c + j) + 8 = nI o) (hen : ∀ e, bt en e = true ↔ (e = j ∨ bt lo e = true))
    (h0 : ∀ (k : Int32) p', (∀ d, d < 32 → (bt k d = true ↔ (fd_bl (a_image j) (d + o) = true ∧ fd_Kp N a_mate a_reach lo j N (d + o)))) → fd_Nar n a_watch a_work f_pending (upd a_work v (a_work v &&& k)) p' → (a_work v &&& k) = 0 → post 0 (f_objectiveSlot, f_maxVariables, f_maxConstraints, f_maxDepth, f_variables, f_space, f_failed, f_terms, f_cells, f_constraints, f_level, f_mode, f_found, f_exhausted, f_hasCurrent, f_objective, p', f_matched, f_depth, f_guided, f_bounded, a_dom, a_watch, a_order, a_direction, a_termA, a_termV, a_cellX, a_kind, a_relation, a_constant, a_first, a_second, a_size, a_number, a_scope, a_savedDom, a_savedConstraints, a_decidedVariable, a_decidedValue, a_current, upd a_work v (a_work v &&& k), a_sums, a_grown, a_image, a_mate, a_parent, a_queue, a_reach, a_frames, a_left))
    (h1 : ∀ (k : Int32) p', (∀ d, d < 32 → (bt k d = true ↔ (fd_bl (a_image j) (d + o) = true ∧ fd_Kp N a_mate a_reach lo j N (d + o)))) → fd_Nar n a_watch a_work f_pending (upd a_work v (a_work v &&& k)) p' → (a_work v &&& k) ≠ 0 → J (nI (j + 1)) f_objectiveSlot f_maxVariables f_maxConstraints f_maxDepth f_variables f_space f_failed f_terms f_cells f_constraints f_level f_mode f_found f_exhausted f_hasCurrent f_objective p' f_matched f_depth f_guided f_bounded a_dom a_watch a_order a_direction a_termA a_termV a_cellX a_kind a_relation a_constant a_first a_second a_size a_number a_scope a_savedDom a_savedConstraints a_decidedVariable a_decidedValue a_current (upd a_work v (a_work v &&& k)) a_sums a_grown a_image a_mate a_parent a_queue a_reach a_frames a_left) :
    ∀ t i, i + t = N → ∀ x : Int64, (∀ y, y < 64 → (fd_bl x y = true ↔ fd_Kp N a_mate a_reach lo j i y)) → ∀ q, t < q → wX_keepMatchable_94 post J (nI N) (nI (16 * c)) lo (nI j) en f_objectiveSlot f_maxVariables f_maxConstraints f_maxDepth f_variables f_space f_failed f_terms f_cells f_constraints f_level f_mode f_found f_exhausted f_hasCurrent f_objective f_pending f_matched f_depth f_guided f_bounded a_dom a_watch a_order a_direction a_termA a_termV a_cellX a_kind a_relation a_constant a_first a_second a_size a_number a_scope a_savedDom a_savedConstraints a_decidedVariable a_decidedValue a_current a_work a_sums a_grown a_image a_mate a_parent a_queue a_reach a_frames a_left q x (nI i) := by
  have ej : (nI j).toNatClampNeg = j := pk_cl j
  have e3 : (nI (16 * c + j)).toNatClampNeg = 16 * c + j := pk_cl _
  intro t
  induction t with
  | zero =>
    intro i hi x hx q hq
    obtain ⟨q, rfl⟩ : ∃ q', q = q' + 1 := ⟨q - 1, by omega⟩
    have e : i = N := by omega
    subst e
    refine pk_le i i (fun _ => ?_) (fun c => absurd c (by omega))
    rw [nI_add, e3, ej, h8, hsc]
    refine ⟨pk_in j 8 (by omega), pk_in (16 * c + j) 208 hc, nm_e ⟨pk_in (16 * c + j) 208 hc, fd_xnar hv hn (fun r p' hN' hr => ?_)⟩⟩
    have hk : ∀ d, d < 32 → (bt (((a_image j &&& x).toUInt64 >>> ((nI o).toInt64.toUInt64 &&& Int64.toUInt64 63)).toInt64).toInt32 d = true ↔ (fd_bl (a_image j) (d + o) = true ∧ fd_Kp i a_mate a_reach lo j i (d + o))) := by
      intro d hd
      rw [fd_back (by omega) hd, fd_land, Bool.and_eq_true, hx (d + o) (by omega)]
    rcases hr with ⟨rfl, z⟩ | ⟨rfl, z⟩
    · exact br_t rfl (h0 _ p' hk hN' z)
    · exact br_f (by decide) (nm_r (nI_1 j) (h1 _ p' hk hN' z))
  | succ t ih =>
    intro i hi x hx q hq
    obtain ⟨q, rfl⟩ : ∃ q', q = q' + 1 := ⟨q - 1, by omega⟩
    have ei : (nI i).toNatClampNeg = i := pk_cl i
    obtain ⟨m1, m2, m3⟩ := hMT.1 i (by omega)
    refine pk_le N i (fun c => absurd c (by omega)) (fun _ => ⟨pk_in i 8 (by omega), ?_⟩)
    rw [ei]
    by_cases hz : (a_reach i &&& en) = 0
    · refine br_t hz (nm_r (nI_1 i) (ih (i + 1) (by omega) x (fun y hy => ?_) q (by omega)))
      rw [hx y hy]
      constructor
      · rintro (a | a | ⟨k, b, r⟩)
        · exact Or.inl a
        · exact Or.inr (Or.inl a)
        · exact Or.inr (Or.inr ⟨k, by omega, r⟩)
      · rintro (a | a | ⟨k, b, r1, e, r2, r3⟩)
        · exact Or.inl a
        · exact Or.inr (Or.inl a)
        · by_cases cc : k = i
          · rw [cc] at r2
            have := fd_eq0.mp hz e
            rw [b_and, r2, (hen e).mpr r3] at this
            exact absurd this (by decide)
          · exact Or.inr (Or.inr ⟨k, by omega, r1, e, r2, r3⟩)
    · obtain ⟨e, he⟩ := fd_ne0.mp hz
      rw [b_and, Bool.and_eq_true, hen e] at he
      refine br_f hz ⟨pk_in i 8 (by omega), ?_⟩
      rw [m1]
      refine nm_e (nm_r (nI_1 i) (ih (i + 1) (by omega) _ (fun y hy => ?_) q (by omega)))
      rw [fd_lor1 _ (by omega), Bool.or_eq_true, hx y hy, decide_eq_true_iff]
      constructor
      · rintro ((a | a | ⟨k, b, r⟩) | a)
        · exact Or.inl a
        · exact Or.inr (Or.inl a)
        · exact Or.inr (Or.inr ⟨k, by omega, r⟩)
        · exact Or.inr (Or.inr ⟨i, by omega, a, e, he⟩)
      · rintro (a | a | ⟨k, b, r1, r2⟩)
        · exact Or.inl (Or.inl a)
        · exact Or.inl (Or.inr (Or.inl a))
        · by_cases cc : k = i
          · rw [cc] at r1; exact Or.inr r1
          · exact Or.inl (Or.inr (Or.inr ⟨k, by omega, r1, r2⟩))
theorem fd_xkm56 {lo : Int32} (w : fd_WF n (a_kind, a_relation, a_constant, a_first, a_second, a_size, a_number, a_scope) c) (hkd : fd_kd (a_kind, a_relation, a_constant, a_first, a_second, a_size, a_number, a_scope) c = 3) (hn : n ≤ 8) (hc : c < 13) (hW : fd_NE n a_work) (hMT : fd_MT (fd_I (a_kind, a_relation, a_constant, a_first, a_second, a_size, a_number, a_scope) c a_work) (fd_sz (a_kind, a_relation, a_constant, a_first, a_second, a_size, a_number, a_scope) c) (fd_sz (a_kind, a_relation, a_constant, a_first, a_second, a_size, a_number, a_scope) c) a_mate f_matched) (hIm : ∀ j x, j < fd_sz (a_kind, a_relation, a_constant, a_first, a_second, a_size, a_number, a_scope) c → (fd_bl (a_image j) x = true ↔ fd_I (a_kind, a_relation, a_constant, a_first, a_second, a_size, a_number, a_scope) c a_work j x)) (hR : fd_Wr (fd_I (a_kind, a_relation, a_constant, a_first, a_second, a_size, a_number, a_scope) c a_work) (fd_sz (a_kind, a_relation, a_constant, a_first, a_second, a_size, a_number, a_scope) c) a_mate (fd_sz (a_kind, a_relation, a_constant, a_first, a_second, a_size, a_number, a_scope) c) a_reach)
    (hlo : ∀ e, bt lo e = true ↔ (e < fd_sz (a_kind, a_relation, a_constant, a_first, a_second, a_size, a_number, a_scope) c ∧ ∃ y, fd_I (a_kind, a_relation, a_constant, a_first, a_second, a_size, a_number, a_scope) c a_work e y ∧ ∀ m, m < fd_sz (a_kind, a_relation, a_constant, a_first, a_second, a_size, a_number, a_scope) c → (a_mate m).toNatClampNeg ≠ y))
    (h : ∀ r W' p', fd_Nar n a_watch a_work f_pending W' p' → fd_Rev n a_work (fd_H (a_kind, a_relation, a_constant, a_first, a_second, a_size, a_number, a_scope) c) r W' → post r (f_objectiveSlot, f_maxVariables, f_maxConstraints, f_maxDepth, f_variables, f_space, f_failed, f_terms, f_cells, f_constraints, f_level, f_mode, f_found, f_exhausted, f_hasCurrent, f_objective, p', f_matched, f_depth, f_guided, f_bounded, a_dom, a_watch, a_order, a_direction, a_termA, a_termV, a_cellX, a_kind, a_relation, a_constant, a_first, a_second, a_size, a_number, a_scope, a_savedDom, a_savedConstraints, a_decidedVariable, a_decidedValue, a_current, W', a_sums, a_grown, a_image, a_mate, a_parent, a_queue, a_reach, a_frames, a_left)) :
    ∀ t j, j + t = fd_sz (a_kind, a_relation, a_constant, a_first, a_second, a_size, a_number, a_scope) c → ∀ W p, fd_Nar n a_watch a_work f_pending W p → fd_Mid n a_work (fd_H (a_kind, a_relation, a_constant, a_first, a_second, a_size, a_number, a_scope) c) W → (∀ i, i < j → ∀ d, bt (W (fd_sp (a_kind, a_relation, a_constant, a_first, a_second, a_size, a_number, a_scope) c i)) d = true → fd_PJ n a_work (fd_H (a_kind, a_relation, a_constant, a_first, a_second, a_size, a_number, a_scope) c) (fd_sp (a_kind, a_relation, a_constant, a_first, a_second, a_size, a_number, a_scope) c i) d) → (∀ i, j ≤ i → i < fd_sz (a_kind, a_relation, a_constant, a_first, a_second, a_size, a_number, a_scope) c → W (fd_sp (a_kind, a_relation, a_constant, a_first, a_second, a_size, a_number, a_scope) c i) = a_work (fd_sp (a_kind, a_relation, a_constant, a_first, a_second, a_size, a_number, a_scope) c i)) → ∀ q, t < q → wX_keepMatchable_56 post (nI (fd_sz (a_kind, a_relation, a_constant, a_first, a_second, a_size, a_number, a_scope) c)) (nI (16 * c)) lo q (nI j) f_objectiveSlot f_maxVariables f_maxConstraints f_maxDepth f_variables f_space f_failed f_terms f_cells f_constraints f_level f_mode f_found f_exhausted f_hasCurrent f_objective p f_matched f_depth f_guided f_bounded a_dom a_watch a_order a_direction a_termA a_termV a_cellX a_kind a_relation a_constant a_first a_second a_size a_number a_scope a_savedDom a_savedConstraints a_decidedVariable a_decidedValue a_current W a_sums a_grown a_image a_mate a_parent a_queue a_reach a_frames a_left := by
  obtain ⟨hT, hz1⟩ := fd_WF3 w hkd
  have h8 := hT.1
  have hTV := fd_MT_TV hMT
  intro t
  induction t with
  | zero =>
    intro j hj W p hN hM hP hE q hq
    obtain ⟨q, rfl⟩ : ∃ q', q = q' + 1 := ⟨q - 1, by omega⟩
    refine pk_le (fd_sz (a_kind, a_relation, a_constant, a_first, a_second, a_size, a_number, a_scope) c) j (fun _ => h 1 W p hN ?_) (fun c => absurd c (by omega))
    obtain ⟨a0, i0, h0, _⟩ := fd_TV_to hkd hT hW hTV
    refine fd_fin (S := fd_Sc (a_kind, a_relation, a_constant, a_first, a_second, a_size, a_number, a_scope) c) (fun a b hab ha => fd_dep w hab ha) hM (fun v hv hS d hd => ?_) a0 i0 h0
    rcases hS with ⟨q, _⟩ | ⟨_, i, hi, e⟩ | ⟨q, _⟩
    · rw [hkd] at q; exact absurd q (by decide)
    · rw [← e] at hd ⊢; exact hP i (by omega) d hd
    · rw [hkd] at q; exact absurd q (by decide)
  | succ t ih =>
    intro j hj W p hN hM hP hE q hq
    obtain ⟨q, rfl⟩ : ∃ q', q = q' + 1 := ⟨q - 1, by omega⟩
    have hjz : j < fd_sz (a_kind, a_relation, a_constant, a_first, a_second, a_size, a_number, a_scope) c := by omega
    have ej : (nI j).toNatClampNeg = j := pk_cl j
    obtain ⟨t1, t2, t3, t4⟩ := hT.2.2.1 j hjz
    obtain ⟨m1, m2, m3⟩ := hMT.1 j hjz
    have o1 := (fd_of_le hT hjz).1
    have key : ∀ (k : Int32), (∀ d, d < 32 → (bt k d = true ↔ (fd_bl (a_image j) (d + fd_of (a_kind, a_relation, a_constant, a_first, a_second, a_size, a_number, a_scope) c j) = true ∧ fd_Kp (fd_sz (a_kind, a_relation, a_constant, a_first, a_second, a_size, a_number, a_scope) c) a_mate a_reach lo j (fd_sz (a_kind, a_relation, a_constant, a_first, a_second, a_size, a_number, a_scope) c) (d + fd_of (a_kind, a_relation, a_constant, a_first, a_second, a_size, a_number, a_scope) c j)))) → ∀ d, bt (W (fd_sp (a_kind, a_relation, a_constant, a_first, a_second, a_size, a_number, a_scope) c j)) d = true → (bt k d = true ↔ fd_PJ n a_work (fd_H (a_kind, a_relation, a_constant, a_first, a_second, a_size, a_number, a_scope) c) (fd_sp (a_kind, a_relation, a_constant, a_first, a_second, a_size, a_number, a_scope) c j) d) := by
      intro k hk d hd
      rw [hE j (Nat.le_refl _) hjz] at hd
      have hI : fd_I (a_kind, a_relation, a_constant, a_first, a_second, a_size, a_number, a_scope) c a_work j (d + fd_of (a_kind, a_relation, a_constant, a_first, a_second, a_size, a_number, a_scope) c j) := ⟨Nat.le_add_left _ _, by rw [Nat.add_sub_cancel]; exact hd⟩
      rw [hk d (fd_lt hd), hIm j _ hjz, fd_TV_PJ hkd hT hW hjz]
      have kk := fd_keep (R := fun k m => bt (a_reach k) m = true) hTV hjz hI (fun k hk => hR.1 k hk) (fun k m hk hm hx => hR.2.1 k m hk hm hx) (fun k y m hk hy _ a b => hR.2.2.2 k y m hk hy hy a b) (fun k m hk hb => hR.2.2.1 k m hk hb)
      rw [kk]
      constructor
      · rintro ⟨_, a | a | ⟨k', b, r1, e, r2, r3⟩⟩
        · exact Or.inl a
        · exact Or.inr (Or.inl a)
        · refine Or.inr (Or.inr ⟨k', b, r1, e, r2, ?_⟩)
          rcases r3 with r3 | r3
          · exact Or.inl r3
          · exact Or.inr ((hlo e).mp r3).2
      · rintro (a | a | ⟨k', b, r1, e, r2, r3⟩)
        · exact ⟨hI, Or.inl a⟩
        · exact ⟨hI, Or.inr (Or.inl a)⟩
        · refine ⟨hI, Or.inr (Or.inr ⟨k', b, r1, e, r2, ?_⟩)⟩
          rcases r3 with r3 | r3
          · exact Or.inl r3
          · exact Or.inr ((hlo e).mpr ⟨(hR.2.2.1 k' e b r2).1, r3⟩)
    refine pk_le (fd_sz (a_kind, a_relation, a_constant, a_first, a_second, a_size, a_number, a_scope) c) j (fun c => absurd c (by omega)) (fun _ => ⟨pk_in j 8 (by omega), ?_⟩)
    rw [ej, m1]
    refine nm_e (nm_e ⟨fd_sz (a_kind, a_relation, a_constant, a_first, a_second, a_size, a_number, a_scope) c + 1, ?_⟩)
    refine fd_xkm94 (a_work := W) (f_pending := p) (I := fd_I (a_kind, a_relation, a_constant, a_first, a_second, a_size, a_number, a_scope) c a_work) (v := fd_sp (a_kind, a_relation, a_constant, a_first, a_second, a_size, a_number, a_scope) c j) (o := fd_of (a_kind, a_relation, a_constant, a_first, a_second, a_size, a_number, a_scope) c j) (n := n) h8 hjz (by omega) hMT hn t1 t2 o1 (fd_num8 hT hjz) (fun e => ?_) (fun k p' hk hN' z => ?_) (fun k p' hk hN' z => ?_) (fd_sz (a_kind, a_relation, a_constant, a_first, a_second, a_size, a_number, a_scope) c) 0 (by omega) _ (fun y hy => ?_) _ (by omega)
    · rw [fd_or1 lo (by omega), Bool.or_eq_true, decide_eq_true_iff]
      exact ⟨fun z => z.elim Or.inr Or.inl, fun z => z.elim Or.inr Or.inl⟩
    · refine h 0 _ p' (fd_Nar_tr hN hN') (Or.inr ⟨rfl, fun a ha hPa => ?_⟩)
      have hw := hM.2 a ha hPa _ t1
      have := (key k hk _ hw).mpr ⟨a, ha, hPa, rfl⟩
      have b := fd_eq0.mp z (a (fd_sp (a_kind, a_relation, a_constant, a_first, a_second, a_size, a_number, a_scope) c j))
      rw [b_and, hw, this] at b
      exact absurd b (by decide)
    · refine ih (j + 1) (by omega) _ p' (fd_Nar_tr hN hN') (fd_Mid_1 t1 hM (fun d hd hp => (key k hk d hd).mpr hp)) (fun i hi d hd => ?_) (fun i hi hiz => ?_) q (by omega)
      · by_cases e : i = j
        · subst e
          rw [pk_us, b_and, Bool.and_eq_true] at hd
          exact (key k hk d hd.1).mp hd.2
        · rw [pk_un (fun x => e (hT.2.2.2 i j (by omega) hjz x))] at hd
          exact hP i (by omega) d hd
      · rw [pk_un (fun x => by have := hT.2.2.2 i j hiz hjz x; omega)]
        exact hE i (by omega) hiz
    · rw [fd_lor1 _ (by omega), Bool.or_eq_true, decide_eq_true_iff, fd_lxm _ hy]
      constructor
      · rintro (a | a)
        · refine Or.inl (fun m hm e => ?_)
          rw [(hMT.2.2.2 y).mpr ⟨m, hm, e⟩] at a
          exact absurd a (by decide)
        · exact Or.inr (Or.inl a)
      · rintro (a | a | ⟨k', b, _⟩)
        · left
          cases e : fd_bl f_matched y with
          | false => rfl
          | true => obtain ⟨m, hm, e⟩ := (hMT.2.2.2 y).mp e
                    exact absurd e (a m hm)
        · exact Or.inr a
        · omega
theorem fd_xkm11 (hN : N ≤ 8) {x3 : Int32} (hMT : fd_MT I N N a_mate f_matched) (hI : ∀ j x, j < N → I j x → x < 48) (hIm : ∀ j x, j < N → (fd_bl (a_image j) x = true ↔ I j x))
    (h : ∀ lo, (∀ e, bt lo e = true ↔ (e < N ∧ ∃ y, I e y ∧ ∀ m, m < N → (a_mate m).toNatClampNeg ≠ y)) → ∃ q, wX_keepMatchable_56 post (nI N) x3 lo q 0 f_objectiveSlot f_maxVariables f_maxConstraints f_maxDepth f_variables f_space f_failed f_terms f_cells f_constraints f_level f_mode f_found f_exhausted f_hasCurrent f_objective f_pending f_matched f_depth f_guided f_bounded a_dom a_watch a_order a_direction a_termA a_termV a_cellX a_kind a_relation a_constant a_first a_second a_size a_number a_scope a_savedDom a_savedConstraints a_decidedVariable a_decidedValue a_current a_work a_sums a_grown a_image a_mate a_parent a_queue a_reach a_frames a_left) :
    ∀ t i, i + t = N → ∀ lo, (∀ e, bt lo e = true ↔ (e < i ∧ ∃ y, I e y ∧ ∀ m, m < N → (a_mate m).toNatClampNeg ≠ y)) → ∀ q, t < q → wX_keepMatchable_11 post (nI N) x3 f_objectiveSlot f_maxVariables f_maxConstraints f_maxDepth f_variables f_space f_failed f_terms f_cells f_constraints f_level f_mode f_found f_exhausted f_hasCurrent f_objective f_pending f_matched f_depth f_guided f_bounded a_dom a_watch a_order a_direction a_termA a_termV a_cellX a_kind a_relation a_constant a_first a_second a_size a_number a_scope a_savedDom a_savedConstraints a_decidedVariable a_decidedValue a_current a_work a_sums a_grown a_image a_mate a_parent a_queue a_reach a_frames a_left q lo (nI i) := by
  intro t
  induction t with
  | zero =>
    intro i hi lo hlo q hq
    obtain ⟨q, rfl⟩ : ∃ q', q = q' + 1 := ⟨q - 1, by omega⟩
    have e : i = N := by omega
    subst e
    exact pk_le i i (fun _ => h lo hlo) (fun c => absurd c (by omega))
  | succ t ih =>
    intro i hi lo hlo q hq
    obtain ⟨q, rfl⟩ : ∃ q', q = q' + 1 := ⟨q - 1, by omega⟩
    have ei : (nI i).toNatClampNeg = i := pk_cl i
    have hiN : i < N := by omega
    refine pk_le N i (fun c => absurd c (by omega)) (fun _ => ⟨pk_in i 8 (by omega), ?_⟩)
    rw [ei]
    by_cases z : (a_image i &&& (f_matched ^^^ (-1))) = 0
    · refine br_t z (nm_r (nI_1 i) (ih (i + 1) (by omega) lo (fun e => ?_) q (by omega)))
      rw [hlo e]
      constructor
      · rintro ⟨a, b⟩; exact ⟨by omega, b⟩
      · rintro ⟨a, y, b1, b2⟩
        by_cases c : e = i
        · subst c
          have y48 := hI _ _ hiN b1
          have := fd_leq0.mp z y
          rw [fd_land, (hIm _ _ hiN).mpr b1, fd_lxm _ (by omega), Bool.true_and] at this
          obtain ⟨m, hm, em⟩ := (hMT.2.2.2 y).mp (by simpa using this)
          exact absurd em (b2 m hm)
        · exact ⟨by omega, y, b1, b2⟩
    · obtain ⟨y, hy⟩ := fd_lne0.mp z
      have hy64 := fd_llt hy
      rw [fd_land, fd_lxm _ hy64, Bool.and_eq_true] at hy
      refine br_f z (nm_e (nm_r (nI_1 i) (ih (i + 1) (by omega) _ (fun e => ?_) q (by omega))))
      rw [fd_or1 lo (by omega), Bool.or_eq_true, hlo e, decide_eq_true_iff]
      constructor
      · rintro (⟨a, b⟩ | a)
        · exact ⟨by omega, b⟩
        · subst a
          refine ⟨by omega, y, (hIm _ _ hiN).mp hy.1, fun m hm em => ?_⟩
          rw [(hMT.2.2.2 y).mpr ⟨m, hm, em⟩] at hy
          exact absurd hy.2 (by decide)
      · rintro ⟨a, b⟩
        by_cases c : e = i
        · exact Or.inr c
        · exact Or.inl ⟨by omega, b⟩
theorem fd_xkeep (w : fd_WF n (a_kind, a_relation, a_constant, a_first, a_second, a_size, a_number, a_scope) c) (hkd : fd_kd (a_kind, a_relation, a_constant, a_first, a_second, a_size, a_number, a_scope) c = 3) (hn : n ≤ 8) (hc : c < 13) (hW : fd_NE n a_work) (hMT : fd_MT (fd_I (a_kind, a_relation, a_constant, a_first, a_second, a_size, a_number, a_scope) c a_work) (fd_sz (a_kind, a_relation, a_constant, a_first, a_second, a_size, a_number, a_scope) c) (fd_sz (a_kind, a_relation, a_constant, a_first, a_second, a_size, a_number, a_scope) c) a_mate f_matched) (hIm : ∀ j x, j < fd_sz (a_kind, a_relation, a_constant, a_first, a_second, a_size, a_number, a_scope) c → (fd_bl (a_image j) x = true ↔ fd_I (a_kind, a_relation, a_constant, a_first, a_second, a_size, a_number, a_scope) c a_work j x)) (hR : fd_Wr (fd_I (a_kind, a_relation, a_constant, a_first, a_second, a_size, a_number, a_scope) c a_work) (fd_sz (a_kind, a_relation, a_constant, a_first, a_second, a_size, a_number, a_scope) c) a_mate (fd_sz (a_kind, a_relation, a_constant, a_first, a_second, a_size, a_number, a_scope) c) a_reach)
    (h : ∀ r W' p', fd_Nar n a_watch a_work f_pending W' p' → fd_Rev n a_work (fd_H (a_kind, a_relation, a_constant, a_first, a_second, a_size, a_number, a_scope) c) r W' → post r (f_objectiveSlot, f_maxVariables, f_maxConstraints, f_maxDepth, f_variables, f_space, f_failed, f_terms, f_cells, f_constraints, f_level, f_mode, f_found, f_exhausted, f_hasCurrent, f_objective, p', f_matched, f_depth, f_guided, f_bounded, a_dom, a_watch, a_order, a_direction, a_termA, a_termV, a_cellX, a_kind, a_relation, a_constant, a_first, a_second, a_size, a_number, a_scope, a_savedDom, a_savedConstraints, a_decidedVariable, a_decidedValue, a_current, W', a_sums, a_grown, a_image, a_mate, a_parent, a_queue, a_reach, a_frames, a_left)) : wpX_keepMatchable post (f_objectiveSlot, f_maxVariables, f_maxConstraints, f_maxDepth, f_variables, f_space, f_failed, f_terms, f_cells, f_constraints, f_level, f_mode, f_found, f_exhausted, f_hasCurrent, f_objective, f_pending, f_matched, f_depth, f_guided, f_bounded, a_dom, a_watch, a_order, a_direction, a_termA, a_termV, a_cellX, a_kind, a_relation, a_constant, a_first, a_second, a_size, a_number, a_scope, a_savedDom, a_savedConstraints, a_decidedVariable, a_decidedValue, a_current, a_work, a_sums, a_grown, a_image, a_mate, a_parent, a_queue, a_reach, a_frames, a_left) (nI c) (nI (fd_sz (a_kind, a_relation, a_constant, a_first, a_second, a_size, a_number, a_scope) c)) := by
  obtain ⟨hT, hz1⟩ := fd_WF3 w hkd
  have e1 : nI c * 16 = nI (16 * c) := by
    have e : nI c * 16 = nI (c * 16) := pk_mul c 16
    rw [e, Nat.mul_comm]
  refine nm_r e1 ⟨fd_sz (a_kind, a_relation, a_constant, a_first, a_second, a_size, a_number, a_scope) c + 1, fd_xkm11 (I := fd_I (a_kind, a_relation, a_constant, a_first, a_second, a_size, a_number, a_scope) c a_work) hT.1 hMT (fun j x hj hx => fd_I_lt hT hj hx) hIm (fun lo hlo => ⟨fd_sz (a_kind, a_relation, a_constant, a_first, a_second, a_size, a_number, a_scope) c + 1, ?_⟩) (fd_sz (a_kind, a_relation, a_constant, a_first, a_second, a_size, a_number, a_scope) c) 0 (by omega) 0 (fun e => ?_) _ (by omega)⟩
  · exact fd_xkm56 w hkd hn hc hW hMT hIm hR hlo h (fd_sz (a_kind, a_relation, a_constant, a_first, a_second, a_size, a_number, a_scope) c) 0 (by omega) a_work f_pending fd_Nar_rf fd_Mid_rf (fun i hi => absurd hi (by omega)) (fun _ _ _ => rfl) _ (by omega)
  · rw [b_0]
    exact ⟨fun z => absurd z (by decide), fun z => absurd z.1 (by omega)⟩
theorem fd_xad46 (w : fd_WF n (a_kind, a_relation, a_constant, a_first, a_second, a_size, a_number, a_scope) c) (hkd : fd_kd (a_kind, a_relation, a_constant, a_first, a_second, a_size, a_number, a_scope) c = 3) (hn : n ≤ 8) (hc : c < 13) (hW : fd_NE n a_work) (hIm : ∀ j x, j < fd_sz (a_kind, a_relation, a_constant, a_first, a_second, a_size, a_number, a_scope) c → (fd_bl (a_image j) x = true ↔ fd_I (a_kind, a_relation, a_constant, a_first, a_second, a_size, a_number, a_scope) c a_work j x))
    (h : ∀ r W' p' (jm : Int64) (j1 j2 : Nat → Int32) (j3 : Nat → Int64) (j4 j5 j6 j7 : Nat → Int32), fd_Nar n a_watch a_work f_pending W' p' → fd_Rev n a_work (fd_H (a_kind, a_relation, a_constant, a_first, a_second, a_size, a_number, a_scope) c) r W' → post r (f_objectiveSlot, f_maxVariables, f_maxConstraints, f_maxDepth, f_variables, f_space, f_failed, f_terms, f_cells, f_constraints, f_level, f_mode, f_found, f_exhausted, f_hasCurrent, f_objective, p', jm, f_depth, f_guided, f_bounded, a_dom, a_watch, a_order, a_direction, a_termA, a_termV, a_cellX, a_kind, a_relation, a_constant, a_first, a_second, a_size, a_number, a_scope, a_savedDom, a_savedConstraints, a_decidedVariable, a_decidedValue, a_current, W', j1, j2, j3, j4, j5, j6, j7, a_frames, a_left)) :
    ∀ t j, j + t = fd_sz (a_kind, a_relation, a_constant, a_first, a_second, a_size, a_number, a_scope) c → ∀ mt md qu pa, fd_MT (fd_I (a_kind, a_relation, a_constant, a_first, a_second, a_size, a_number, a_scope) c a_work) (fd_sz (a_kind, a_relation, a_constant, a_first, a_second, a_size, a_number, a_scope) c) j mt md → ∀ q, t < q → wX_filterAllDifferent_46 post (nI c) (nI (fd_sz (a_kind, a_relation, a_constant, a_first, a_second, a_size, a_number, a_scope) c)) q (nI j) f_objectiveSlot f_maxVariables f_maxConstraints f_maxDepth f_variables f_space f_failed f_terms f_cells f_constraints f_level f_mode f_found f_exhausted f_hasCurrent f_objective f_pending md f_depth f_guided f_bounded a_dom a_watch a_order a_direction a_termA a_termV a_cellX a_kind a_relation a_constant a_first a_second a_size a_number a_scope a_savedDom a_savedConstraints a_decidedVariable a_decidedValue a_current a_work a_sums a_grown a_image mt pa qu a_reach a_frames a_left := by
  obtain ⟨hT, hz1⟩ := fd_WF3 w hkd
  have h8 := hT.1
  intro t
  induction t with
  | zero =>
    intro j hj mt md qu pa hMT q hq
    obtain ⟨q, rfl⟩ : ∃ q', q = q' + 1 := ⟨q - 1, by omega⟩
    have e : j = fd_sz (a_kind, a_relation, a_constant, a_first, a_second, a_size, a_number, a_scope) c := by omega
    subst e
    refine pk_le (fd_sz (a_kind, a_relation, a_constant, a_first, a_second, a_size, a_number, a_scope) c) (fd_sz (a_kind, a_relation, a_constant, a_first, a_second, a_size, a_number, a_scope) c) (fun _ => ?_) (fun c => absurd c (by omega)) (ha := by have := hT.1; omega) (hb := by have := hT.1; omega)
    refine fd_xfindReach (I := fd_I (a_kind, a_relation, a_constant, a_first, a_second, a_size, a_number, a_scope) c a_work) (a_mate := mt) (f_matched := md) hT.1 hMT hIm (fun R hR => ?_)
    refine fd_xkeep (a_mate := mt) (f_matched := md) (a_reach := R) w hkd hn hc hW hMT hIm hR (fun r W' p' hN hRv => ⟨fd_nb01 (fd_Rev_01 hRv), h r W' p' _ _ _ _ _ _ _ _ hN hRv⟩)
  | succ t ih =>
    intro j hj mt md qu pa hMT q hq
    obtain ⟨q, rfl⟩ : ∃ q', q = q' + 1 := ⟨q - 1, by omega⟩
    refine pk_le (fd_sz (a_kind, a_relation, a_constant, a_first, a_second, a_size, a_number, a_scope) c) j (fun c => absurd c (by omega)) (fun _ => ?_)
    refine fd_xaugment (I := fd_I (a_kind, a_relation, a_constant, a_first, a_second, a_size, a_number, a_scope) c a_work) (a_mate := mt) (f_matched := md) hT.1 (by omega) hMT (fun j x hj hx => fd_I_lt hT hj hx) hIm (fun mt' md' qu' pa' hM' => ?_) (fun qu' pa' hno => ?_)
    · exact br_f (by decide) (nm_r (nI_1 j) (ih (j + 1) (by omega) mt' md' qu' pa' hM' q (by omega)))
    · exact br_t rfl (h 0 a_work f_pending _ _ _ _ _ _ _ _ fd_Nar_rf (Or.inr ⟨rfl, fun a ha hH => hno _ (fd_TV_of hkd hT ha hH)⟩))
theorem fd_xshifted {post : Int64 → Prop} {j : Nat} (hT : fd_Tm n (a_kind, a_relation, a_constant, a_first, a_second, a_size, a_number, a_scope) c) (hn : n ≤ 8) (hc : c < 13) (hj : j < fd_sz (a_kind, a_relation, a_constant, a_first, a_second, a_size, a_number, a_scope) c) (h : ∀ y : Int64, (∀ x, fd_bl y x = true ↔ fd_I (a_kind, a_relation, a_constant, a_first, a_second, a_size, a_number, a_scope) c a_work j x) → post y) : wpX_shifted post (f_objectiveSlot, f_maxVariables, f_maxConstraints, f_maxDepth, f_variables, f_space, f_failed, f_terms, f_cells, f_constraints, f_level, f_mode, f_found, f_exhausted, f_hasCurrent, f_objective, f_pending, f_matched, f_depth, f_guided, f_bounded, a_dom, a_watch, a_order, a_direction, a_termA, a_termV, a_cellX, a_kind, a_relation, a_constant, a_first, a_second, a_size, a_number, a_scope, a_savedDom, a_savedConstraints, a_decidedVariable, a_decidedValue, a_current, a_work, a_sums, a_grown, a_image, a_mate, a_parent, a_queue, a_reach, a_frames, a_left) (nI c) (nI j) := by
  obtain ⟨t1, t2, t3, t4⟩ := hT.2.2.1 j hj
  have h8 := hT.1
  have t2' : a_scope (16 * c + j) = nI (fd_sp (a_kind, a_relation, a_constant, a_first, a_second, a_size, a_number, a_scope) c j) := t2
  have e3 : (nI (16 * c + j)).toNatClampNeg = 16 * c + j := pk_cl _
  have e5 : (nI (fd_sp (a_kind, a_relation, a_constant, a_first, a_second, a_size, a_number, a_scope) c j)).toNatClampNeg = fd_sp (a_kind, a_relation, a_constant, a_first, a_second, a_size, a_number, a_scope) c j := pk_cl _
  have o1 := (fd_of_le hT hj).1
  refine nm_r fd_ix ⟨pk_in (16 * c + j) 208 (by omega), ?_⟩
  rw [e3, t2', e5, fd_num8 hT hj]
  refine ⟨fd_in8 (by omega), pk_in (16 * c + j) 208 (by omega), h _ (fun x => ?_)⟩
  constructor
  · intro hb
    have hx := fd_llt hb
    rw [fd_shft (by omega) x hx, Bool.and_eq_true, decide_eq_true_iff] at hb
    exact hb
  · intro hI
    have hx := fd_I_lt hT hj hI
    rw [fd_shft (by omega) x (by omega), Bool.and_eq_true, decide_eq_true_iff]
    exact hI
theorem fd_xad14 (w : fd_WF n (a_kind, a_relation, a_constant, a_first, a_second, a_size, a_number, a_scope) c) (hkd : fd_kd (a_kind, a_relation, a_constant, a_first, a_second, a_size, a_number, a_scope) c = 3) (hn : n ≤ 8) (hc : c < 13) (hW : fd_NE n a_work) (hmd : f_matched = 0)
    (h : ∀ r W' p' (jm : Int64) (j1 j2 : Nat → Int32) (j3 : Nat → Int64) (j4 j5 j6 j7 : Nat → Int32), fd_Nar n a_watch a_work f_pending W' p' → fd_Rev n a_work (fd_H (a_kind, a_relation, a_constant, a_first, a_second, a_size, a_number, a_scope) c) r W' → post r (f_objectiveSlot, f_maxVariables, f_maxConstraints, f_maxDepth, f_variables, f_space, f_failed, f_terms, f_cells, f_constraints, f_level, f_mode, f_found, f_exhausted, f_hasCurrent, f_objective, p', jm, f_depth, f_guided, f_bounded, a_dom, a_watch, a_order, a_direction, a_termA, a_termV, a_cellX, a_kind, a_relation, a_constant, a_first, a_second, a_size, a_number, a_scope, a_savedDom, a_savedConstraints, a_decidedVariable, a_decidedValue, a_current, W', j1, j2, j3, j4, j5, j6, j7, a_frames, a_left)) :
    ∀ t j, j + t = fd_sz (a_kind, a_relation, a_constant, a_first, a_second, a_size, a_number, a_scope) c → ∀ im mt, (∀ i, i < j → ∀ x, fd_bl (im i) x = true ↔ fd_I (a_kind, a_relation, a_constant, a_first, a_second, a_size, a_number, a_scope) c a_work i x) → (∀ i, i < j → mt i = -1) → ∀ q, t < q → wX_filterAllDifferent_14 post (nI c) (nI (fd_sz (a_kind, a_relation, a_constant, a_first, a_second, a_size, a_number, a_scope) c)) f_objectiveSlot f_maxVariables f_maxConstraints f_maxDepth f_variables f_space f_failed f_terms f_cells f_constraints f_level f_mode f_found f_exhausted f_hasCurrent f_objective f_pending f_matched f_depth f_guided f_bounded q (nI j) a_dom a_watch a_order a_direction a_termA a_termV a_cellX a_kind a_relation a_constant a_first a_second a_size a_number a_scope a_savedDom a_savedConstraints a_decidedVariable a_decidedValue a_current a_work a_sums a_grown im mt a_parent a_queue a_reach a_frames a_left := by
  obtain ⟨hT, hz1⟩ := fd_WF3 w hkd
  have h8 := hT.1
  intro t
  induction t with
  | zero =>
    intro j hj im mt h1 h2 q hq
    obtain ⟨q, rfl⟩ : ∃ q', q = q' + 1 := ⟨q - 1, by omega⟩
    refine pk_le (fd_sz (a_kind, a_relation, a_constant, a_first, a_second, a_size, a_number, a_scope) c) j (fun _ => ⟨fd_sz (a_kind, a_relation, a_constant, a_first, a_second, a_size, a_number, a_scope) c + 1, ?_⟩) (fun c => absurd c (by omega))
    refine fd_xad46 (a_image := im) w hkd hn hc hW (fun i x hi => h1 i (by omega) x) h (fd_sz (a_kind, a_relation, a_constant, a_first, a_second, a_size, a_number, a_scope) c) 0 (by omega) mt f_matched a_queue a_parent ⟨fun k hk => absurd hk (by omega), fun i k hi => absurd hi (by omega), fun k _ hk => h2 k (by omega), fun x => ?_⟩ _ (by omega)
    rw [hmd, fd_l0]
    exact ⟨fun z => absurd z (by decide), fun ⟨k, hk, _⟩ => absurd hk (by omega)⟩
  | succ t ih =>
    intro j hj im mt h1 h2 q hq
    obtain ⟨q, rfl⟩ : ∃ q', q = q' + 1 := ⟨q - 1, by omega⟩
    have ej : (nI j).toNatClampNeg = j := pk_cl j
    refine pk_le (fd_sz (a_kind, a_relation, a_constant, a_first, a_second, a_size, a_number, a_scope) c) j (fun c => absurd c (by omega)) (fun _ => ?_)
    refine fd_xshifted (n := n) hT hn hc (by omega) (fun y hy => ⟨pk_in j 8 (by omega), ?_⟩)
    rw [ej]
    refine nm_e ⟨pk_in j 8 (by omega), nm_e (nm_r (nI_1 j) (ih (j + 1) (by omega) _ _ (fun i hi => ?_) (fun i hi => ?_) q (by omega)))⟩
    · by_cases c : i = j
      · rw [c, pk_uLs]; exact hy
      · rw [pk_uLn c]; exact h1 i (by omega)
    · by_cases c : i = j
      · rw [c, pk_us]
      · rw [pk_un c]; exact h2 i (by omega)
theorem fd_xalldiff (w : fd_WF n (a_kind, a_relation, a_constant, a_first, a_second, a_size, a_number, a_scope) c) (hkd : fd_kd (a_kind, a_relation, a_constant, a_first, a_second, a_size, a_number, a_scope) c = 3) (hn : n ≤ 8) (hc : c < 13) (hW : fd_NE n a_work)
    (h : ∀ r W' p' (jm : Int64) (j1 j2 : Nat → Int32) (j3 : Nat → Int64) (j4 j5 j6 j7 : Nat → Int32), fd_Nar n a_watch a_work f_pending W' p' → fd_Rev n a_work (fd_H (a_kind, a_relation, a_constant, a_first, a_second, a_size, a_number, a_scope) c) r W' → post r (f_objectiveSlot, f_maxVariables, f_maxConstraints, f_maxDepth, f_variables, f_space, f_failed, f_terms, f_cells, f_constraints, f_level, f_mode, f_found, f_exhausted, f_hasCurrent, f_objective, p', jm, f_depth, f_guided, f_bounded, a_dom, a_watch, a_order, a_direction, a_termA, a_termV, a_cellX, a_kind, a_relation, a_constant, a_first, a_second, a_size, a_number, a_scope, a_savedDom, a_savedConstraints, a_decidedVariable, a_decidedValue, a_current, W', j1, j2, j3, j4, j5, j6, j7, a_frames, a_left)) : wpX_filterAllDifferent post (f_objectiveSlot, f_maxVariables, f_maxConstraints, f_maxDepth, f_variables, f_space, f_failed, f_terms, f_cells, f_constraints, f_level, f_mode, f_found, f_exhausted, f_hasCurrent, f_objective, f_pending, f_matched, f_depth, f_guided, f_bounded, a_dom, a_watch, a_order, a_direction, a_termA, a_termV, a_cellX, a_kind, a_relation, a_constant, a_first, a_second, a_size, a_number, a_scope, a_savedDom, a_savedConstraints, a_decidedVariable, a_decidedValue, a_current, a_work, a_sums, a_grown, a_image, a_mate, a_parent, a_queue, a_reach, a_frames, a_left) (nI c) := by
  obtain ⟨hT, hz1⟩ := fd_WF3 w hkd
  have e2 : (nI c).toNatClampNeg = c := pk_cl c
  have hz : a_size c = nI (fd_sz (a_kind, a_relation, a_constant, a_first, a_second, a_size, a_number, a_scope) c) := hT.2.1
  refine ⟨pk_in c 13 hc, ?_⟩
  rw [e2]
  exact nm_r hz ⟨fd_sz (a_kind, a_relation, a_constant, a_first, a_second, a_size, a_number, a_scope) c + 1, fd_xad14 (f_matched := 0) w hkd hn hc hW rfl h (fd_sz (a_kind, a_relation, a_constant, a_first, a_second, a_size, a_number, a_scope) c) 0 (by omega) a_image a_mate (fun i hi => absurd hi (by omega)) (fun i hi => absurd hi (by omega)) _ (by omega)⟩
end
end
section
/-! ===== X: revise, propagate, load, settle ===== -/
theorem fd_tot_mono {n : Nat} {W W' : Nat → Int32} (h : ∀ v d, bt (W' v) d = true → bt (W v) d = true) : fd_tot n W' ≤ fd_tot n W := fd_pr_mono (fun v _ => fd_pc_mono (h v))
theorem fd_tot_sub {n : Nat} {W W' : Nat → Int32} (h : fd_Sub n W' W) : fd_tot n W' ≤ fd_tot n W := fd_pr_mono (fun v hv => fd_pc_mono (h v hv))
theorem fd_tot_eq {n : Nat} {W W' : Nat → Int32} (h : ∀ v, v < n → W' v = W v) : fd_tot n W' = fd_tot n W := fd_pr_congr (fun v hv => by rw [h v hv])
theorem fd_Clo_keep {n : Nat} {G : fd_FC} {c : Nat} {W W' : Nat → Int32} (w : fd_WF n G c) (hC : fd_Clo n G W c) (hne : fd_NE n W') (heq : ∀ v, fd_Sc G c v → W' v = W v) : fd_Clo n G W' c := by
  intro v hs d hd
  rw [heq v hs] at hd
  obtain ⟨a, ha, hH, e2⟩ := hC v hs d hd
  have dec := fun u => Classical.propDecidable (fd_Sc G c u)
  refine ⟨fun u => if fd_Sc G c u then a u else fd_lo (W' u), fun u hu => ?_, fd_dep w (fun u hu => ?_) hH, ?_⟩
  · show bt (W' u) (if fd_Sc G c u then a u else fd_lo (W' u)) = true
    by_cases q : fd_Sc G c u
    · rw [if_pos q, heq u q]; exact ha u hu
    · rw [if_neg q]; exact fd_lo_in (hne u hu)
  · show a u = if fd_Sc G c u then a u else fd_lo (W' u)
    rw [if_pos hu]
  · show (if fd_Sc G c v then a v else fd_lo (W' v)) = d
    rw [if_pos hs]; exact e2
/-- the start of a propagation after narrowing a good store -/
theorem fd_Pro_init {n m : Nat} {G : fd_FC} {wt W W1 : Nat → Int32} {p1 : Int32} (hw : ∀ c, c < m → fd_WF n G c) (ht : fd_Wt n m G wt) (hG : fd_Good n m G W) (hN : fd_Nar n wt W 0 W1 p1) (hne : fd_NE n W1) : fd_Pro n m G W1 W1 p1 := by
  refine ⟨hne, fun c hc hb => fd_Clo_keep (hw c hc) (hG.2 c hc) hne (fun v hs => Classical.byContradiction (fun q => ?_)), fun i hi => ?_, fd_Sub_rf, fun _ _ h => h⟩
  · rw [(hN.2 c).mpr (Or.inr ⟨v, fd_Sc_lt (hw c hc) hs, q, ht.1 v c hc hs⟩)] at hb
    exact absurd hb (by decide)
  · rcases (hN.2 i).mp hi with q | ⟨v, hv, _, q⟩
    · rw [b_0] at q; exact absurd q (by decide)
    · exact ht.2 v i hv q
/-- the outcome of a closure -/
def fd_Out (n m : Nat) (G : fd_FC) (D dm0 : Nat → Int32) (r fl : Int32) (dm : Nat → Int32) : Prop :=
  (∀ v, n ≤ v → dm v = dm0 v) ∧ ((r = 0 ∧ fl = 0 ∧ fd_Max n m G D dm) ∨ (r = 1 ∧ fl = 1 ∧ fd_Non n m G D ∧ ∀ v, v < n → dm v = 0))
theorem fd_Sub_ceq {n : Nat} {D D' E : Nat → Int32} (h : ∀ v, v < n → D v = D' v) (k : fd_Sub n E D) : fd_Sub n E D' := fun v hv d hd => by rw [← h v hv]; exact k v hv d hd
theorem fd_Out_D {n m : Nat} {G : fd_FC} {D D' dm0 : Nat → Int32} {r fl : Int32} {dm : Nat → Int32} (h : ∀ v, v < n → D v = D' v) (k : fd_Out n m G D dm0 r fl dm) : fd_Out n m G D' dm0 r fl dm := by
  have h' : ∀ v, v < n → D' v = D v := fun v hv => (h v hv).symm
  refine ⟨k.1, ?_⟩
  rcases k.2 with ⟨a, b, c1, c2, c3⟩ | ⟨a, b, c, d⟩
  · exact Or.inl ⟨a, b, c1, fd_Sub_ceq h c2, fun E hE hs => c3 E hE (fd_Sub_ceq h' hs)⟩
  · exact Or.inr ⟨a, b, fun E hE hs => c E hE (fd_Sub_ceq h' hs), d⟩
theorem fd_Out_un {n m : Nat} {G : fd_FC} {D dm0 : Nat → Int32} {r fl r' fl' : Int32} {dm dm' : Nat → Int32} (h : fd_Out n m G D dm0 r fl dm) (k : fd_Out n m G D dm0 r' fl' dm') : r' = r ∧ fl' = fl ∧ dm' = dm := by
  have hi : ∀ v, n ≤ v → dm' v = dm v := fun v hv => by rw [h.1 v hv, k.1 v hv]
  rcases h.2 with ⟨a, b, c⟩ | ⟨a, b, c, d⟩ <;> rcases k.2 with ⟨a', b', c'⟩ | ⟨a', b', c', d'⟩
  · refine ⟨by rw [a, a'], by rw [b, b'], funext (fun v => ?_)⟩
    rcases Nat.lt_or_ge v n with q | q
    · exact fd_Max_un c' c v q
    · exact hi v q
  · exact absurd c.2.1 (c' dm c.1)
  · exact absurd c'.2.1 (c dm' c'.1)
  · refine ⟨by rw [a, a'], by rw [b, b'], funext (fun v => ?_)⟩
    rcases Nat.lt_or_ge v n with q | q
    · rw [d v q, d' v q]
    · exact hi v q
section
variable {f_objectiveSlot f_maxVariables f_maxConstraints f_maxDepth f_variables f_space f_failed f_terms f_cells f_constraints f_level f_mode f_found f_exhausted f_hasCurrent f_objective f_pending : Int32} {f_matched : Int64} {f_depth f_guided f_bounded : Int32} {a_dom a_watch a_order a_direction a_termA a_termV a_cellX a_kind a_relation a_constant a_first a_second a_size a_number a_scope a_savedDom a_savedConstraints a_decidedVariable a_decidedValue a_current a_work a_sums a_grown : Nat → Int32} {a_image : Nat → Int64} {a_mate a_parent a_queue a_reach a_frames a_left : Nat → Int32} {post : Int32 → SX → Prop} {n m c : Nat}
theorem fd_xrevise (w : fd_WF n (a_kind, a_relation, a_constant, a_first, a_second, a_size, a_number, a_scope) c) (hn : n ≤ 8) (hc : c < 13) (hW : fd_NE n a_work) (hsp : fd_tot n a_work ≤ 1024)
    (h : ∀ r W' p' (jm : Int64) (j1 j2 : Nat → Int32) (j3 : Nat → Int64) (j4 j5 j6 j7 : Nat → Int32), fd_Nar n a_watch a_work f_pending W' p' → fd_Rev n a_work (fd_H (a_kind, a_relation, a_constant, a_first, a_second, a_size, a_number, a_scope) c) r W' → post r (f_objectiveSlot, f_maxVariables, f_maxConstraints, f_maxDepth, f_variables, f_space, f_failed, f_terms, f_cells, f_constraints, f_level, f_mode, f_found, f_exhausted, f_hasCurrent, f_objective, p', jm, f_depth, f_guided, f_bounded, a_dom, a_watch, a_order, a_direction, a_termA, a_termV, a_cellX, a_kind, a_relation, a_constant, a_first, a_second, a_size, a_number, a_scope, a_savedDom, a_savedConstraints, a_decidedVariable, a_decidedValue, a_current, W', j1, j2, j3, j4, j5, j6, j7, a_frames, a_left)) : wpX_revise post (f_objectiveSlot, f_maxVariables, f_maxConstraints, f_maxDepth, f_variables, f_space, f_failed, f_terms, f_cells, f_constraints, f_level, f_mode, f_found, f_exhausted, f_hasCurrent, f_objective, f_pending, f_matched, f_depth, f_guided, f_bounded, a_dom, a_watch, a_order, a_direction, a_termA, a_termV, a_cellX, a_kind, a_relation, a_constant, a_first, a_second, a_size, a_number, a_scope, a_savedDom, a_savedConstraints, a_decidedVariable, a_decidedValue, a_current, a_work, a_sums, a_grown, a_image, a_mate, a_parent, a_queue, a_reach, a_frames, a_left) (nI c) := by
  have e2 : (nI c).toNatClampNeg = c := pk_cl c
  refine ⟨pk_in c 13 hc, ?_⟩
  rw [e2]
  rcases fd_kd4 w with k | k | k | k
  · have hk : a_kind c = 1 := k
    obtain ⟨hT, hz1, ⟨l1, l2, l3, l4, l5⟩, hz2⟩ := fd_WF1 w k
    have l1' : a_relation c = nI (fd_rl (a_kind, a_relation, a_constant, a_first, a_second, a_size, a_number, a_scope) c) := l1
    refine nm_r hk (br_f (by decide) (br_f (by decide) (br_t rfl ⟨pk_in c 13 hc, pk_in c 13 hc, ?_⟩)))
    refine fd_xlinear (rl := fd_rl (a_kind, a_relation, a_constant, a_first, a_second, a_size, a_number, a_scope) c) (k := fd_ct (a_kind, a_relation, a_constant, a_first, a_second, a_size, a_number, a_scope) c) hT hn hc hz1 l5 l1' l2 hz2 rfl (by omega) hW (fun r W' p' hN hR => ⟨fd_nb01 (fd_Rev_01 hR), h r W' p' _ _ _ _ _ _ _ _ hN ?_⟩)
    have e : fd_H (a_kind, a_relation, a_constant, a_first, a_second, a_size, a_number, a_scope) c = (fun a => fd_rel (fd_rl (a_kind, a_relation, a_constant, a_first, a_second, a_size, a_number, a_scope) c) (fd_sum (a_kind, a_relation, a_constant, a_first, a_second, a_size, a_number, a_scope) c a) (fd_ct (a_kind, a_relation, a_constant, a_first, a_second, a_size, a_number, a_scope) c)) := funext (fun a => propext (fd_H1 k))
    rw [e]; exact hR
  · have hk : a_kind c = 2 := k
    refine nm_r hk (br_f (by decide) (br_f (by decide) (br_f (by decide) (br_t rfl ?_))))
    exact fd_xreified w k hn hc hW hsp (fun r W' p' S g hN hR => ⟨fd_nb01 (fd_Rev_01 hR), h r W' p' _ _ _ _ _ _ _ _ hN hR⟩)
  · have hk : a_kind c = 3 := k
    refine nm_r hk (br_f (by decide) (br_f (by decide) (br_f (by decide) (br_f (by decide) (br_t rfl ?_)))))
    exact fd_xalldiff w k hn hc hW (fun r W' p' jm j1 j2 j3 j4 j5 j6 j7 hN hR => ⟨fd_nb01 (fd_Rev_01 hR), h r W' p' jm j1 j2 j3 j4 j5 j6 j7 hN hR⟩)
  · have hk : a_kind c = 4 := k
    refine nm_r hk (br_f (by decide) (br_t (by decide) ?_))
    exact fd_xelement w k hn hc hW (fun r W' p' hN hR => ⟨fd_nb01 (fd_Rev_01 hR), h r W' p' _ _ _ _ _ _ _ _ hN hR⟩)
theorem fd_xprop2 {D : Nat → Int32} (hw : ∀ c, c < m → fd_WF n (a_kind, a_relation, a_constant, a_first, a_second, a_size, a_number, a_scope) c) (ht : fd_Wt n m (a_kind, a_relation, a_constant, a_first, a_second, a_size, a_number, a_scope) a_watch) (hn : n ≤ 8) (hm : m ≤ 12)
    (h : ∀ r W' (jm : Int64) (j1 j2 : Nat → Int32) (j3 : Nat → Int64) (j4 j5 j6 j7 : Nat → Int32), fd_Res n m (a_kind, a_relation, a_constant, a_first, a_second, a_size, a_number, a_scope) D r W' → post r (f_objectiveSlot, f_maxVariables, f_maxConstraints, f_maxDepth, f_variables, f_space, f_failed, f_terms, f_cells, f_constraints, f_level, f_mode, f_found, f_exhausted, f_hasCurrent, f_objective, 0, jm, f_depth, f_guided, f_bounded, a_dom, a_watch, a_order, a_direction, a_termA, a_termV, a_cellX, a_kind, a_relation, a_constant, a_first, a_second, a_size, a_number, a_scope, a_savedDom, a_savedConstraints, a_decidedVariable, a_decidedValue, a_current, W', j1, j2, j3, j4, j5, j6, j7, a_frames, a_left)) :
    ∀ k step W p (jm : Int64) (j1 j2 : Nat → Int32) (j3 : Nat → Int64) (j4 j5 j6 j7 : Nat → Int32), fd_mu n W p ≤ k → step + k ≤ 4095 → fd_Pro n m (a_kind, a_relation, a_constant, a_first, a_second, a_size, a_number, a_scope) D W p → fd_tot n W ≤ 1024 → ∀ q, k < q → wX_propagate_2 post q (nI step) f_objectiveSlot f_maxVariables f_maxConstraints f_maxDepth f_variables f_space f_failed f_terms f_cells f_constraints f_level f_mode f_found f_exhausted f_hasCurrent f_objective p jm f_depth f_guided f_bounded a_dom a_watch a_order a_direction a_termA a_termV a_cellX a_kind a_relation a_constant a_first a_second a_size a_number a_scope a_savedDom a_savedConstraints a_decidedVariable a_decidedValue a_current W j1 j2 j3 j4 j5 j6 j7 a_frames a_left := by
  intro k
  induction k with
  | zero =>
    intro step W p jm j1 j2 j3 j4 j5 j6 j7 hmu hst hP hsp q hq
    obtain ⟨q, rfl⟩ : ∃ q', q = q' + 1 := ⟨q - 1, by omega⟩
    refine pk_le 4096 step (fun c => absurd c (by omega)) (fun _ => ?_)
    by_cases z : p = 0
    · have := h 1 W jm j1 j2 j3 j4 j5 j6 j7 (Or.inl ⟨rfl, fd_Pro_end hP z⟩)
      subst z
      exact br_t rfl this
    · obtain ⟨i, hi⟩ := fd_ne0.mp z
      have := fd_cn_pos (p := bt p) (n := 12) (by have := hP.2.2.1 i hi; omega) hi
      unfold fd_mu at hmu; omega
  | succ k ih =>
    intro step W p jm j1 j2 j3 j4 j5 j6 j7 hmu hst hP hsp q hq
    obtain ⟨q, rfl⟩ : ∃ q', q = q' + 1 := ⟨q - 1, by omega⟩
    refine pk_le 4096 step (fun c => absurd c (by omega)) (fun _ => ?_)
    by_cases z : p = 0
    · have := h 1 W jm j1 j2 j3 j4 j5 j6 j7 (Or.inl ⟨rfl, fd_Pro_end hP z⟩)
      subst z
      exact br_t rfl this
    · refine br_f z (fd_xlo (nm_e ?_))
      have hb := fd_lo_in z
      have hc := hP.2.2.1 _ hb
      have hp1 : ∀ i, bt (p &&& (p - 1)) i = true ↔ (bt p i = true ∧ i ≠ fd_lo p) := fun i => by
        rw [fd_clr hb (fun i hi => fd_lo_b hi), Bool.and_eq_true, Bool.not_eq_true', decide_eq_false_iff_not]
      refine fd_xrevise (n := n) (a_work := W) (f_pending := p &&& (p - 1)) (hw _ hc) hn (by omega) hP.1 hsp (fun r W' p' jm' j1' j2' j3' j4' j5' j6' j7' hN hR => ?_)
      rcases fd_Rev_01 hR with e | e
      · subst e
        refine br_f (by decide) (nm_r (nI_1 step) (ih (step + 1) W' p' jm' j1' j2' j3' j4' j5' j6' j7' ?_ (by omega) (fd_Pro_step hw ht hP hc hp1 hN hR) (Nat.le_trans (fd_tot_mono hN.1) hsp) q (by omega)))
        have := fd_mu_step (n := n) (by omega) hb hp1 hN
        omega
      · subst e
        refine br_t rfl (h 0 W' jm' j1' j2' j3' j4' j5' j6' j7' (Or.inr ⟨rfl, fd_Pro_fail hw hP hc ?_⟩))
        rcases hR with ⟨e, _⟩ | ⟨_, x⟩
        · exact absurd e (by decide)
        · exact x
theorem fd_xprop {D : Nat → Int32} (hw : ∀ c, c < m → fd_WF n (a_kind, a_relation, a_constant, a_first, a_second, a_size, a_number, a_scope) c) (ht : fd_Wt n m (a_kind, a_relation, a_constant, a_first, a_second, a_size, a_number, a_scope) a_watch) (hn : n ≤ 8) (hm : m ≤ 12) (hP : fd_Pro n m (a_kind, a_relation, a_constant, a_first, a_second, a_size, a_number, a_scope) D a_work f_pending) (hsp : fd_tot n a_work ≤ 1024)
    (h : ∀ r W' (jm : Int64) (j1 j2 : Nat → Int32) (j3 : Nat → Int64) (j4 j5 j6 j7 : Nat → Int32), fd_Res n m (a_kind, a_relation, a_constant, a_first, a_second, a_size, a_number, a_scope) D r W' → post r (f_objectiveSlot, f_maxVariables, f_maxConstraints, f_maxDepth, f_variables, f_space, f_failed, f_terms, f_cells, f_constraints, f_level, f_mode, f_found, f_exhausted, f_hasCurrent, f_objective, 0, jm, f_depth, f_guided, f_bounded, a_dom, a_watch, a_order, a_direction, a_termA, a_termV, a_cellX, a_kind, a_relation, a_constant, a_first, a_second, a_size, a_number, a_scope, a_savedDom, a_savedConstraints, a_decidedVariable, a_decidedValue, a_current, W', j1, j2, j3, j4, j5, j6, j7, a_frames, a_left)) : wpX_propagate post (f_objectiveSlot, f_maxVariables, f_maxConstraints, f_maxDepth, f_variables, f_space, f_failed, f_terms, f_cells, f_constraints, f_level, f_mode, f_found, f_exhausted, f_hasCurrent, f_objective, f_pending, f_matched, f_depth, f_guided, f_bounded, a_dom, a_watch, a_order, a_direction, a_termA, a_termV, a_cellX, a_kind, a_relation, a_constant, a_first, a_second, a_size, a_number, a_scope, a_savedDom, a_savedConstraints, a_decidedVariable, a_decidedValue, a_current, a_work, a_sums, a_grown, a_image, a_mate, a_parent, a_queue, a_reach, a_frames, a_left) :=
  ⟨3085, fd_xprop2 hw ht hn hm h 3084 0 a_work f_pending _ _ _ _ _ _ _ _ (fd_mu_le _ _ hn) (by omega) hP hsp 3085 (by omega)⟩
theorem fd_xload2 {post : SX → Prop} (hn : n ≤ 8) (hv : f_variables = nI n) (h : ∀ W, (∀ v, v < n → W v = a_dom v) → post (f_objectiveSlot, f_maxVariables, f_maxConstraints, f_maxDepth, f_variables, f_space, f_failed, f_terms, f_cells, f_constraints, f_level, f_mode, f_found, f_exhausted, f_hasCurrent, f_objective, 0, f_matched, f_depth, f_guided, f_bounded, a_dom, a_watch, a_order, a_direction, a_termA, a_termV, a_cellX, a_kind, a_relation, a_constant, a_first, a_second, a_size, a_number, a_scope, a_savedDom, a_savedConstraints, a_decidedVariable, a_decidedValue, a_current, W, a_sums, a_grown, a_image, a_mate, a_parent, a_queue, a_reach, a_frames, a_left)) :
    ∀ t i, i + t = n → ∀ W, (∀ v, v < i → W v = a_dom v) → ∀ q, t < q → wX_load_2 post f_objectiveSlot f_maxVariables f_maxConstraints f_maxDepth f_variables f_space f_failed f_terms f_cells f_constraints f_level f_mode f_found f_exhausted f_hasCurrent f_objective f_pending f_matched f_depth f_guided f_bounded q (nI i) a_dom a_watch a_order a_direction a_termA a_termV a_cellX a_kind a_relation a_constant a_first a_second a_size a_number a_scope a_savedDom a_savedConstraints a_decidedVariable a_decidedValue a_current W a_sums a_grown a_image a_mate a_parent a_queue a_reach a_frames a_left := by
  subst hv
  intro t
  induction t with
  | zero =>
    intro i hi W hW q hq
    obtain ⟨q, rfl⟩ : ∃ q', q = q' + 1 := ⟨q - 1, by omega⟩
    exact pk_le n i (fun _ => h W (fun v hv => hW v (by omega))) (fun c => absurd c (by omega))
  | succ t ih =>
    intro i hi W hW q hq
    obtain ⟨q, rfl⟩ : ∃ q', q = q' + 1 := ⟨q - 1, by omega⟩
    have ei : (nI i).toNatClampNeg = i := pk_cl i
    refine pk_le n i (fun c => absurd c (by omega)) (fun _ => ⟨pk_in i 8 (by omega), pk_in i 8 (by omega), ?_⟩)
    rw [ei]
    refine nm_e (nm_r (nI_1 i) (ih (i + 1) (by omega) _ (fun v hv => ?_) q (by omega)))
    by_cases c : v = i
    · rw [c, pk_us]
    · rw [pk_un c]; exact hW v (by omega)
theorem fd_xload {post : SX → Prop} (hn : n ≤ 8) (hv : f_variables = nI n) (h : ∀ W, (∀ v, v < n → W v = a_dom v) → post (f_objectiveSlot, f_maxVariables, f_maxConstraints, f_maxDepth, f_variables, f_space, f_failed, f_terms, f_cells, f_constraints, f_level, f_mode, f_found, f_exhausted, f_hasCurrent, f_objective, 0, f_matched, f_depth, f_guided, f_bounded, a_dom, a_watch, a_order, a_direction, a_termA, a_termV, a_cellX, a_kind, a_relation, a_constant, a_first, a_second, a_size, a_number, a_scope, a_savedDom, a_savedConstraints, a_decidedVariable, a_decidedValue, a_current, W, a_sums, a_grown, a_image, a_mate, a_parent, a_queue, a_reach, a_frames, a_left)) : wpX_load post (f_objectiveSlot, f_maxVariables, f_maxConstraints, f_maxDepth, f_variables, f_space, f_failed, f_terms, f_cells, f_constraints, f_level, f_mode, f_found, f_exhausted, f_hasCurrent, f_objective, f_pending, f_matched, f_depth, f_guided, f_bounded, a_dom, a_watch, a_order, a_direction, a_termA, a_termV, a_cellX, a_kind, a_relation, a_constant, a_first, a_second, a_size, a_number, a_scope, a_savedDom, a_savedConstraints, a_decidedVariable, a_decidedValue, a_current, a_work, a_sums, a_grown, a_image, a_mate, a_parent, a_queue, a_reach, a_frames, a_left) :=
  ⟨n + 1, fd_xload2 hn hv h n 0 (by omega) a_work (fun v hv => absurd hv (by omega)) _ (by omega)⟩
theorem fd_xset19 {g : Int32} (hn : n ≤ 8) (hv : f_variables = nI n) (hg : g = 0 ∨ g = 1) (h : ∀ dm, (∀ v, n ≤ v → dm v = a_dom v) → (∀ v, v < n → dm v = if g = 0 then 0 else a_work v) → post (if g = 0 then 1 else 0) (f_objectiveSlot, f_maxVariables, f_maxConstraints, f_maxDepth, f_variables, f_space, if g = 0 then 1 else 0, f_terms, f_cells, f_constraints, f_level, f_mode, f_found, f_exhausted, f_hasCurrent, f_objective, 0, f_matched, f_depth, f_guided, f_bounded, dm, a_watch, a_order, a_direction, a_termA, a_termV, a_cellX, a_kind, a_relation, a_constant, a_first, a_second, a_size, a_number, a_scope, a_savedDom, a_savedConstraints, a_decidedVariable, a_decidedValue, a_current, a_work, a_sums, a_grown, a_image, a_mate, a_parent, a_queue, a_reach, a_frames, a_left)) :
    ∀ t i, i + t = n → ∀ dm, (∀ v, n ≤ v → dm v = a_dom v) → (∀ v, v < i → dm v = if g = 0 then 0 else a_work v) → ∀ q, t < q → wX_settle_19 post g f_objectiveSlot f_maxVariables f_maxConstraints f_maxDepth f_variables f_space f_failed f_terms f_cells f_constraints f_level f_mode f_found f_exhausted f_hasCurrent f_objective f_pending f_matched f_depth f_guided f_bounded q (nI i) dm a_watch a_order a_direction a_termA a_termV a_cellX a_kind a_relation a_constant a_first a_second a_size a_number a_scope a_savedDom a_savedConstraints a_decidedVariable a_decidedValue a_current a_work a_sums a_grown a_image a_mate a_parent a_queue a_reach a_frames a_left := by
  subst hv
  intro t
  induction t with
  | zero =>
    intro i hi dm h1 h2 q hq
    obtain ⟨q, rfl⟩ : ∃ q', q = q' + 1 := ⟨q - 1, by omega⟩
    have hh := h dm h1 (fun v hv => h2 v (by omega))
    refine pk_le n i (fun _ => ?_) (fun c => absurd c (by omega))
    rcases hg with e | e
    · subst e
      exact br_t rfl ⟨narrow_b1, rfl, br_t rfl hh⟩
    · subst e
      exact br_f (by decide) ⟨narrow_b0, rfl, br_f (by decide) hh⟩
  | succ t ih =>
    intro i hi dm h1 h2 q hq
    obtain ⟨q, rfl⟩ : ∃ q', q = q' + 1 := ⟨q - 1, by omega⟩
    have ei : (nI i).toNatClampNeg = i := pk_cl i
    refine pk_le n i (fun c => absurd c (by omega)) (fun _ => ?_)
    rw [ei]
    rcases hg with e | e
    · subst e
      refine br_t rfl ⟨pk_in i 8 (by omega), nm_e (nm_r (nI_1 i) (ih (i + 1) (by omega) _ (fun v hv => ?_) (fun v hv => ?_) q (by omega)))⟩
      · rw [pk_un (by omega)]; exact h1 v hv
      · by_cases c : v = i
        · rw [c, pk_us, if_pos rfl]
        · rw [pk_un c]; exact h2 v (by omega)
    · subst e
      refine br_f (by decide) ⟨pk_in i 8 (by omega), pk_in i 8 (by omega), nm_e (nm_r (nI_1 i) (ih (i + 1) (by omega) _ (fun v hv => ?_) (fun v hv => ?_) q (by omega)))⟩
      · rw [pk_un (by omega)]; exact h1 v hv
      · by_cases c : v = i
        · rw [c, pk_us, if_neg (by decide)]
        · rw [pk_un c]; exact h2 v (by omega)
theorem fd_xsettle {D : Nat → Int32} {al : Int32} (hw : ∀ c, c < m → fd_WF n (a_kind, a_relation, a_constant, a_first, a_second, a_size, a_number, a_scope) c) (ht : fd_Wt n m (a_kind, a_relation, a_constant, a_first, a_second, a_size, a_number, a_scope) a_watch) (hn : n ≤ 8) (hm : m ≤ 12) (hv : f_variables = nI n) (hal : (al = 0 ∧ fd_Non n m (a_kind, a_relation, a_constant, a_first, a_second, a_size, a_number, a_scope) D) ∨ (al = 1 ∧ fd_Pro n m (a_kind, a_relation, a_constant, a_first, a_second, a_size, a_number, a_scope) D a_work f_pending ∧ fd_tot n a_work ≤ 1024))
    (h : ∀ r fl dm W' (jm : Int64) (j1 j2 : Nat → Int32) (j3 : Nat → Int64) (j4 j5 j6 j7 : Nat → Int32), fd_Out n m (a_kind, a_relation, a_constant, a_first, a_second, a_size, a_number, a_scope) D a_dom r fl dm → post r (f_objectiveSlot, f_maxVariables, f_maxConstraints, f_maxDepth, f_variables, f_space, fl, f_terms, f_cells, f_constraints, f_level, f_mode, f_found, f_exhausted, f_hasCurrent, f_objective, 0, jm, f_depth, f_guided, f_bounded, dm, a_watch, a_order, a_direction, a_termA, a_termV, a_cellX, a_kind, a_relation, a_constant, a_first, a_second, a_size, a_number, a_scope, a_savedDom, a_savedConstraints, a_decidedVariable, a_decidedValue, a_current, W', j1, j2, j3, j4, j5, j6, j7, a_frames, a_left)) : wpX_settle post (f_objectiveSlot, f_maxVariables, f_maxConstraints, f_maxDepth, f_variables, f_space, f_failed, f_terms, f_cells, f_constraints, f_level, f_mode, f_found, f_exhausted, f_hasCurrent, f_objective, f_pending, f_matched, f_depth, f_guided, f_bounded, a_dom, a_watch, a_order, a_direction, a_termA, a_termV, a_cellX, a_kind, a_relation, a_constant, a_first, a_second, a_size, a_number, a_scope, a_savedDom, a_savedConstraints, a_decidedVariable, a_decidedValue, a_current, a_work, a_sums, a_grown, a_image, a_mate, a_parent, a_queue, a_reach, a_frames, a_left) al := by
  rcases hal with ⟨e, hno⟩ | ⟨e, hP, hsp⟩
  · subst e
    refine br_t rfl ⟨n + 1, fd_xset19 (g := 0) hn hv (Or.inl rfl) (fun dm h1 h2 => ?_) n 0 (by omega) a_dom (fun _ _ => rfl) (fun v hv => absurd hv (by omega)) _ (by omega)⟩
    exact h 1 1 dm a_work _ _ _ _ _ _ _ _ ⟨h1, Or.inr ⟨rfl, rfl, hno, h2⟩⟩
  · subst e
    refine br_f (by decide) (fd_xprop hw ht hn hm hP hsp (fun r W' jm j1 j2 j3 j4 j5 j6 j7 hR => ?_))
    rcases hR with ⟨e, hM⟩ | ⟨e, hno⟩
    · subst e
      refine br_f (by decide) ⟨n + 1, fd_xset19 (a_work := W') (g := 1) hn hv (Or.inr rfl) (fun dm h1 h2 => ?_) n 0 (by omega) a_dom (fun _ _ => rfl) (fun v hv => absurd hv (by omega)) _ (by omega)⟩
      have h2' : ∀ v, v < n → W' v = dm v := fun v hv => (h2 v hv).symm
      refine h 0 0 dm W' _ _ _ _ _ _ _ _ ⟨h1, Or.inl ⟨rfl, rfl, fd_Good_congr hw h2' hM.1, ?_, fun E hE hs => fd_Sub_ceq h2' (hM.2.2 E hE hs)⟩⟩
      intro v hv d hd
      rw [← h2' v hv] at hd
      exact hM.2.1 v hv d hd
    · subst e
      refine br_t rfl ⟨n + 1, fd_xset19 (a_work := W') (g := 0) hn hv (Or.inl rfl) (fun dm h1 h2 => ?_) n 0 (by omega) a_dom (fun _ _ => rfl) (fun v hv => absurd hv (by omega)) _ (by omega)⟩
      exact h 1 1 dm W' _ _ _ _ _ _ _ _ ⟨h1, Or.inr ⟨rfl, rfl, hno, h2⟩⟩
end
end
section
/-! ===== Y: size, kth, total, space, test, decode ===== -/
section
variable {f_maxVariables f_maxConstraints f_maxDepth f_vars f_cons f_level f_failed f_termCount f_cellCount f_goalCount f_mode f_found f_exhausted f_current : Int32} {a_made a_dom a_order a_dir a_terms a_cells a_goal a_words a_savedDom a_savedCons a_decision a_val a_seen : Nat → Int32} {post : Int32 → Prop} {n : Nat}
theorem fd_ysize_l {m : Int32} (h : post (nI (fd_pc m))) : ∀ k i, i + k = 32 → ∀ q, k < q → wY_size_4 post m f_maxVariables f_maxConstraints f_maxDepth f_vars f_cons f_level f_failed f_termCount f_cellCount f_goalCount f_mode f_found f_exhausted f_current a_made a_dom a_order a_dir a_terms a_cells a_goal a_words a_savedDom a_savedCons a_decision a_val a_seen q (nI (fd_cn (bt m) i)) (nI i) := by
  intro k
  induction k with
  | zero =>
    intro i hi q hq
    obtain ⟨q, rfl⟩ : ∃ q', q = q' + 1 := ⟨q - 1, by omega⟩
    have e : i = 32 := by omega
    subst e
    exact pk_le 32 32 (fun _ => h) (fun c => absurd c (by omega))
  | succ k ih =>
    intro i hi q hq
    obtain ⟨q, rfl⟩ : ∃ q', q = q' + 1 := ⟨q - 1, by omega⟩
    refine pk_le 32 i (fun c => absurd c (by omega)) (fun _ => ?_)
    have e : nI (fd_cn (bt m) i) + ((m.toUInt32 >>> ((nI i).toUInt32 &&& Int32.toUInt32 31)).toInt32 &&& 1) = nI (fd_cn (bt m) (i + 1)) := by
      rw [fd_u1 m (by omega)]
      by_cases hb : bt m i = true
      · rw [if_pos hb, fd_cn_t hb, nI_1]
      · rw [if_neg hb, fd_cn_f (by simpa using hb)]
        exact nI_add _ 0
    exact nm_r e (nm_r (nI_1 i) (ih (i + 1) (by omega) q (by omega)))
theorem fd_ysize {m : Int32} (h : post (nI (fd_pc m))) : wpY_size post (f_maxVariables, f_maxConstraints, f_maxDepth, f_vars, f_cons, f_level, f_failed, f_termCount, f_cellCount, f_goalCount, f_mode, f_found, f_exhausted, f_current, a_made, a_dom, a_order, a_dir, a_terms, a_cells, a_goal, a_words, a_savedDom, a_savedCons, a_decision, a_val, a_seen) m := ⟨33, fd_ysize_l h 32 0 rfl 33 (by omega)⟩
theorem fd_ykth_l {m : Int32} {k : Nat} (hk : k < fd_pc m) (h : ∀ d, bt m d = true → fd_cn (bt m) d = k → post (nI d)) : ∀ t i, i + t = 32 → fd_cn (bt m) i ≤ k → ∀ q, t < q → wY_kth_5 post m f_maxVariables f_maxConstraints f_maxDepth f_vars f_cons f_level f_failed f_termCount f_cellCount f_goalCount f_mode f_found f_exhausted f_current a_made a_dom a_order a_dir a_terms a_cells a_goal a_words a_savedDom a_savedCons a_decision a_val a_seen q (nI (k - fd_cn (bt m) i)) (nI i) := by
  have hk32 := fd_pc_le m
  intro t
  induction t with
  | zero =>
    intro i hi hc q hq
    have e : i = 32 := by omega
    subst e
    unfold fd_pc at hk; omega
  | succ t ih =>
    intro i hi hc q hq
    obtain ⟨q, rfl⟩ : ∃ q', q = q' + 1 := ⟨q - 1, by omega⟩
    refine pk_le 32 i (fun c => absurd c (by omega)) (fun _ => ?_)
    rw [fd_u1 m (by omega)]
    by_cases hb : bt m i = true
    · rw [if_pos hb]
      refine br_t rfl ?_
      have hz : nI (k - fd_cn (bt m) i) = 0 ↔ k - fd_cn (bt m) i = 0 := nI_eq (b := 0) (by omega) (by omega)
      by_cases e : fd_cn (bt m) i = k
      · exact br_t (hz.mpr (by omega)) (h i hb e)
      · have e1 : nI (k - fd_cn (bt m) i) + (-1) = nI (k - fd_cn (bt m) (i + 1)) := by
          rw [fd_cn_t hb]
          have : k - fd_cn (bt m) i = (k - (fd_cn (bt m) i + 1)) + 1 := by omega
          rw [this, pk_m1]
        refine br_f (fun x => e (by have := hz.mp x; omega)) (nm_r e1 (nm_r (nI_1 i) (ih (i + 1) (by omega) (by rw [fd_cn_t hb]; omega) q (by omega))))
    · rw [if_neg hb]
      refine br_f (by decide) (nm_r (nI_1 i) ?_)
      have := ih (i + 1) (by omega) (by rw [fd_cn_f (by simpa using hb)]; exact hc) q (by omega)
      rw [fd_cn_f (by simpa using hb)] at this
      exact this
theorem fd_ykth {m : Int32} {k : Nat} (hk : k < fd_pc m) (h : ∀ d, bt m d = true → fd_cn (bt m) d = k → post (nI d)) : wpY_kth post (f_maxVariables, f_maxConstraints, f_maxDepth, f_vars, f_cons, f_level, f_failed, f_termCount, f_cellCount, f_goalCount, f_mode, f_found, f_exhausted, f_current, a_made, a_dom, a_order, a_dir, a_terms, a_cells, a_goal, a_words, a_savedDom, a_savedCons, a_decision, a_val, a_seen) m (nI k) := ⟨33, fd_ykth_l hk h 32 0 rfl (by show (0 : Nat) ≤ k; omega) 33 (by omega)⟩
theorem fd_ytest {rl : Nat} {S K : Int32} (hrl : rl ≤ 3) (h1 : fd_rel rl S.toInt K.toInt → post 1) (h0 : ¬ fd_rel rl S.toInt K.toInt → post 0) : wpY_test post (f_maxVariables, f_maxConstraints, f_maxDepth, f_vars, f_cons, f_level, f_failed, f_termCount, f_cellCount, f_goalCount, f_mode, f_found, f_exhausted, f_current, a_made, a_dom, a_order, a_dir, a_terms, a_cells, a_goal, a_words, a_savedDom, a_savedCons, a_decision, a_val, a_seen) (nI rl) S K := by
  rcases (by omega : rl = 0 ∨ rl = 1 ∨ rl = 2 ∨ rl = 3) with e | e | e | e
  · subst e
    refine br_t (by decide) ?_
    by_cases c : S = K
    · exact br_t c (h1 (by show _ = _; rw [c]))
    · exact br_f c (h0 (fun x => c (Int32.toInt_inj.mp x)))
  · subst e
    refine br_f (by decide) (br_t (by decide) ?_)
    by_cases c : S = K
    · exact br_t c (h0 (fun x => x (by rw [c])))
    · exact br_f c (h1 (fun x => c (Int32.toInt_inj.mp x)))
  · subst e
    refine br_f (by decide) (br_f (by decide) (br_t (by decide) ?_))
    by_cases c : K < S
    · exact br_t c (h0 (fun x => by have x : S.toInt ≤ K.toInt := x; rw [Int32.lt_iff_toInt_lt] at c; omega))
    · exact br_f c (h1 (by show S.toInt ≤ K.toInt; rw [Int32.lt_iff_toInt_lt] at c; omega))
  · subst e
    refine br_f (by decide) (br_f (by decide) (br_f (by decide) ?_))
    by_cases c : S < K
    · exact br_t c (h0 (fun x => by have x : K.toInt ≤ S.toInt := x; rw [Int32.lt_iff_toInt_lt] at c; omega))
    · exact br_f c (h1 (by show K.toInt ≤ S.toInt; rw [Int32.lt_iff_toInt_lt] at c; omega))
theorem fd_ytot_l (hn : n ≤ 8) (hv : f_vars = nI n) (h : post (nI (fd_tot n a_dom))) : ∀ t i, i + t = n → ∀ q, t < q → wY_total_4 post f_maxVariables f_maxConstraints f_maxDepth f_vars f_cons f_level f_failed f_termCount f_cellCount f_goalCount f_mode f_found f_exhausted f_current a_made a_dom a_order a_dir a_terms a_cells a_goal a_words a_savedDom a_savedCons a_decision a_val a_seen q (nI (fd_tot i a_dom)) (nI i) := by
  subst hv
  intro t
  induction t with
  | zero =>
    intro i hi q hq
    obtain ⟨q, rfl⟩ : ∃ q', q = q' + 1 := ⟨q - 1, by omega⟩
    have e : i = n := by omega
    subst e
    exact pk_le i i (fun _ => h) (fun c => absurd c (by omega))
  | succ t ih =>
    intro i hi q hq
    obtain ⟨q, rfl⟩ : ∃ q', q = q' + 1 := ⟨q - 1, by omega⟩
    have ei : (nI i).toNatClampNeg = i := pk_cl i
    refine pk_le n i (fun c => absurd c (by omega)) (fun _ => ⟨pk_in i 8 (by omega), ?_⟩)
    rw [ei]
    exact fd_ysize (nm_r (pk_mul _ _) (nm_r (nI_1 i) (ih (i + 1) (by omega) q (by omega))))
theorem fd_ytot (hn : n ≤ 8) (hv : f_vars = nI n) (h : post (nI (fd_tot n a_dom))) : wpY_total post (f_maxVariables, f_maxConstraints, f_maxDepth, f_vars, f_cons, f_level, f_failed, f_termCount, f_cellCount, f_goalCount, f_mode, f_found, f_exhausted, f_current, a_made, a_dom, a_order, a_dir, a_terms, a_cells, a_goal, a_words, a_savedDom, a_savedCons, a_decision, a_val, a_seen) := ⟨n + 1, fd_ytot_l hn hv h n 0 (by omega) _ (by omega)⟩
theorem fd_yspace_l (hn : n ≤ 8) (hv : f_vars = nI n) (h : post (nI (fd_tot n a_made))) : ∀ t i, i + t = n → ∀ q, t < q → wY_space_4 post f_maxVariables f_maxConstraints f_maxDepth f_vars f_cons f_level f_failed f_termCount f_cellCount f_goalCount f_mode f_found f_exhausted f_current a_made a_dom a_order a_dir a_terms a_cells a_goal a_words a_savedDom a_savedCons a_decision a_val a_seen q (nI (fd_tot i a_made)) (nI i) := by
  subst hv
  intro t
  induction t with
  | zero =>
    intro i hi q hq
    obtain ⟨q, rfl⟩ : ∃ q', q = q' + 1 := ⟨q - 1, by omega⟩
    have e : i = n := by omega
    subst e
    exact pk_le i i (fun _ => h) (fun c => absurd c (by omega))
  | succ t ih =>
    intro i hi q hq
    obtain ⟨q, rfl⟩ : ∃ q', q = q' + 1 := ⟨q - 1, by omega⟩
    have ei : (nI i).toNatClampNeg = i := pk_cl i
    refine pk_le n i (fun c => absurd c (by omega)) (fun _ => ⟨pk_in i 8 (by omega), ?_⟩)
    rw [ei]
    exact fd_ysize (nm_r (pk_mul _ _) (nm_r (nI_1 i) (ih (i + 1) (by omega) q (by omega))))
theorem fd_yspace (hn : n ≤ 8) (hv : f_vars = nI n) (h : post (nI (fd_tot n a_made))) : wpY_space post (f_maxVariables, f_maxConstraints, f_maxDepth, f_vars, f_cons, f_level, f_failed, f_termCount, f_cellCount, f_goalCount, f_mode, f_found, f_exhausted, f_current, a_made, a_dom, a_order, a_dir, a_terms, a_cells, a_goal, a_words, a_savedDom, a_savedCons, a_decision, a_val, a_seen) := ⟨n + 1, fd_yspace_l hn hv h n 0 (by omega) _ (by omega)⟩
/-- the digits from p on are set -/
def fd_Dg (n : Nat) (D : Nat → Int32) (o : Nat → Nat) (r : Nat → Int32) (t p x : Nat) (a : Nat → Nat) : Prop :=
  (∀ q, p ≤ q → q < n → bt (D (o q)) (a (o q)) = true) ∧ x < fd_pr (fun q => fd_pc (D (o q))) p ∧
  (∀ k' : Nat → Nat, (∀ q, p ≤ q → q < n → k' q = fd_rk (D (o q)) (r (o q)) (a (o q))) → fd_num (fun q => fd_pc (D (o q))) k' p = x → fd_num (fun q => fd_pc (D (o q))) k' n = t)
theorem fd_ydec9 {post : SY → Prop} {o : Nat → Nat} {t : Nat} (hn : n ≤ 8) (hp : fd_Perm n o) (ho : ∀ p, p < n → a_order p = nI (o p)) (hne : ∀ v, v < n → a_dom v ≠ 0) (ht : fd_tot n a_dom ≤ 1024)
    (h : ∀ (val' : Nat → Int32) a, fd_In n a_dom a → fd_nm n a_dom o a_dir a = t → (∀ v, v < n → val' v = nI (a v)) → post (f_maxVariables, f_maxConstraints, f_maxDepth, f_vars, f_cons, f_level, f_failed, f_termCount, f_cellCount, f_goalCount, f_mode, f_found, f_exhausted, f_current, a_made, a_dom, a_order, a_dir, a_terms, a_cells, a_goal, a_words, a_savedDom, a_savedCons, a_decision, val', a_seen)) :
    ∀ p, p ≤ n → ∀ x (va : Nat → Int32) (a : Nat → Nat), fd_Dg n a_dom o a_dir t p x a → x ≤ 1024 → (∀ q, p ≤ q → q < n → va (o q) = nI (a (o q))) → ∀ q, p < q → wY_decode_9 post f_maxVariables f_maxConstraints f_maxDepth f_vars f_cons f_level f_failed f_termCount f_cellCount f_goalCount f_mode f_found f_exhausted f_current q (nI x) (nI p + (-1)) a_made a_dom a_order a_dir a_terms a_cells a_goal a_words a_savedDom a_savedCons a_decision va a_seen := by
  intro p
  induction p with
  | zero =>
    intro hpn x va a ⟨g1, g2, g3⟩ hx hva q hq
    obtain ⟨q, rfl⟩ : ∃ q', q = q' + 1 := ⟨q - 1, by omega⟩
    refine br_t (by decide) (h va a (fun v hv => ?_) (g3 _ (fun _ _ _ => rfl) ?_) (fun v hv => ?_))
    · obtain ⟨p, hpn, e⟩ := fd_Perm_on hp hv
      rw [← e]; exact g1 p (by omega) hpn
    · have g2 : x < 1 := g2
      show 0 = x
      omega
    · obtain ⟨p, hpn, e⟩ := fd_Perm_on hp hv
      rw [← e]; exact hva p (by omega) hpn
  | succ p ih =>
    intro hpn x va a ⟨g1, g2, g3⟩ hx hva q hq
    obtain ⟨q, rfl⟩ : ∃ q', q = q' + 1 := ⟨q - 1, by omega⟩
    have ep : (nI p).toNatClampNeg = p := pk_cl p
    have hop := hp.1 p (by omega)
    have eo : (nI (o p)).toNatClampNeg = o p := pk_cl _
    have hs : 0 < fd_pc (a_dom (o p)) := fd_pc_pos (hne _ hop)
    have hs32 := fd_pc_le (a_dom (o p))
    rw [pk_m1]
    refine br_f (nI_pos (by omega)) ⟨pk_in p 8 (by omega), ?_⟩
    rw [ep]
    refine nm_r (ho p (by omega)) ⟨fd_in8 (by omega), ?_⟩
    rw [eo]
    refine fd_ysize (br_f (nI_nle hs (by omega)) ⟨nI_ne0 hs (by omega), nm_r (pk_rem (by omega) hs (by omega)) ⟨nI_ne0 hs (by omega), nm_r (pk_div (by omega) hs (by omega)) ⟨fd_in8 (by omega), ?_⟩⟩⟩)
    have hmod := Nat.mod_lt x hs
    -- what is left to do for a digit d of rank x % s
    have fin : ∀ d, bt (a_dom (o p)) d = true → fd_rk (a_dom (o p)) (a_dir (o p)) d = x % fd_pc (a_dom (o p)) → wY_decode_9 post f_maxVariables f_maxConstraints f_maxDepth f_vars f_cons f_level f_failed f_termCount f_cellCount f_goalCount f_mode f_found f_exhausted f_current q (nI (x / fd_pc (a_dom (o p)))) (nI p + (-1)) a_made a_dom a_order a_dir a_terms a_cells a_goal a_words a_savedDom a_savedCons a_decision (upd va (o p) (nI d)) a_seen := by
      intro d hd hr
      have hne' : ∀ q, p + 1 ≤ q → q < n → o q ≠ o p := fun q hq hqn e => by have := hp.2 q p hqn (by omega) e; omega
      refine ih (by omega) _ _ (fd_up a (o p) d) ⟨fun q hq hqn => ?_, ?_, fun k' hk' hx' => g3 k' (fun q hq hqn => ?_) ?_⟩ ?_ (fun q hq hqn => ?_) q (by omega)
      · by_cases c : q = p
        · rw [c, fd_up_s]; exact hd
        · rw [fd_up_n a (hne' q (by omega) hqn)]; exact g1 q (by omega) hqn
      · rw [fd_pr_s] at g2
        exact Nat.div_lt_of_lt_mul (by rw [Nat.mul_comm]; exact g2)
      · rw [hk' q (by omega) hqn, fd_up_n a (hne' q hq hqn)]
      · rw [fd_num_s, hx', hk' p (Nat.le_refl _) (by omega), fd_up_s, hr]
        exact Nat.div_add_mod' x (fd_pc (a_dom (o p)))
      · exact Nat.le_trans (Nat.div_le_self _ _) hx
      · by_cases c : q = p
        · rw [c, fd_up_s, pk_us]
        · rw [fd_up_n a (hne' q (by omega) hqn), pk_un (hne' q (by omega) hqn)]; exact hva q (by omega) hqn
    by_cases hd : a_dir (o p) = 1
    · have e1 : nI (fd_pc (a_dom (o p))) - 1 - nI (x % fd_pc (a_dom (o p))) = nI (fd_pc (a_dom (o p)) - 1 - x % fd_pc (a_dom (o p))) := by
        have : nI (fd_pc (a_dom (o p))) - 1 = nI (fd_pc (a_dom (o p)) - 1) := pk_sub (b := 1) hs
        rw [this, pk_sub (by omega)]
      refine br_t hd (nm_r e1 ⟨fd_in8 (by omega), ?_⟩)
      rw [eo]
      refine fd_ykth (by omega) (fun d hdb hdc => ⟨fd_in8 (by omega), nm_e (nm_e (fin d hdb ?_))⟩)
      unfold fd_rk
      rw [if_pos hd, hdc]; omega
    · refine br_f hd ⟨fd_in8 (by omega), ?_⟩
      rw [eo]
      refine fd_ykth hmod (fun d hdb hdc => ⟨fd_in8 (by omega), nm_e (nm_e (fin d hdb ?_))⟩)
      unfold fd_rk
      rw [if_neg hd, hdc]
theorem fd_ydecode {post : SY → Prop} {o : Nat → Nat} {t : Nat} (hn : n ≤ 8) (hv : f_vars = nI n) (hp : fd_Perm n o) (ho : ∀ p, p < n → a_order p = nI (o p)) (ht : fd_tot n a_dom ≤ 1024) (htt : t < fd_tot n a_dom)
    (h : ∀ (val' : Nat → Int32) a, fd_In n a_dom a → fd_nm n a_dom o a_dir a = t → (∀ v, v < n → val' v = nI (a v)) → post (f_maxVariables, f_maxConstraints, f_maxDepth, f_vars, f_cons, f_level, f_failed, f_termCount, f_cellCount, f_goalCount, f_mode, f_found, f_exhausted, f_current, a_made, a_dom, a_order, a_dir, a_terms, a_cells, a_goal, a_words, a_savedDom, a_savedCons, a_decision, val', a_seen)) : wpY_decode post (f_maxVariables, f_maxConstraints, f_maxDepth, f_vars, f_cons, f_level, f_failed, f_termCount, f_cellCount, f_goalCount, f_mode, f_found, f_exhausted, f_current, a_made, a_dom, a_order, a_dir, a_terms, a_cells, a_goal, a_words, a_savedDom, a_savedCons, a_decision, a_val, a_seen) (nI t) := by
  have hne : ∀ v, v < n → a_dom v ≠ 0 := fun v hv => fd_pc_ne (fd_pr_pos' (f := fun v => fd_pc (a_dom v)) (n := n) (by show 0 < fd_tot n a_dom; omega) v hv)
  have e : f_vars - 1 = nI n + (-1) := by rw [hv]; exact Int32.sub_eq_add_neg _ _
  refine nm_r e ⟨n + 1, fd_ydec9 hn hp ho hne ht h n (Nat.le_refl _) t a_val (fun _ => 0) ⟨fun q hq hqn => absurd hqn (by omega), ?_, fun k' _ hx => hx⟩ (by omega) (fun q hq hqn => absurd hqn (by omega)) _ (by omega)⟩
  have e2 : fd_pr (fun p => fd_pc (a_dom (o p))) n = fd_tot n a_dom := fd_pr_perm (fun v => fd_pc (a_dom v)) o n hp.1 hp.2
  rw [e2]; exact htt
end
end
section
/-! ===== Y: holds, allHold, objective ===== -/
/-- the words of constraint c -/
def fd_WD (G : fd_FC) (wd : Nat → Int32) (c : Nat) : Prop :=
  wd (22 * c) = G.1 c ∧ wd (22 * c + 1) = G.2.1 c ∧ wd (22 * c + 2) = G.2.2.1 c ∧ wd (22 * c + 3) = G.2.2.2.1 c ∧ wd (22 * c + 4) = G.2.2.2.2.1 c ∧ wd (22 * c + 5) = G.2.2.2.2.2.1 c ∧
  (G.1 c ≠ 4 → ∀ j, j < fd_sz G c → wd (22 * c + 6 + 2 * j) = G.2.2.2.2.2.2.1 (16 * c + j) ∧ wd (22 * c + 6 + 2 * j + 1) = G.2.2.2.2.2.2.2 (16 * c + j)) ∧
  (G.1 c = 4 → ∀ j, j < fd_sz G c → wd (22 * c + 6 + j) = G.2.2.2.2.2.2.1 (16 * c + j))
section
variable {f_maxVariables f_maxConstraints f_maxDepth f_vars f_cons f_level f_failed f_termCount f_cellCount f_goalCount f_mode f_found f_exhausted f_current : Int32} {a_made a_dom a_order a_dir a_terms a_cells a_goal a_words a_savedDom a_savedCons a_decision a_val a_seen : Nat → Int32} {post : Int32 → Prop} {n c : Nat} {G : fd_FC} {a : Nat → Nat}
theorem fd_vI (hv : ∀ v, v < n → a_val v = nI (a v)) (ha : ∀ v, v < n → a v < 32) {v : Nat} (h : v < n) : (a_val v).toInt = (a v : Int) := by
  rw [hv v h, nI_toInt (by have := ha v h; omega)]
theorem fd_yh209 (hn : n ≤ 8) (hc : c < 12) (hT : fd_Tm n G c) (hL : fd_Li G c) (hk : fd_kd G c = 1 ∨ (fd_kd G c = 2 ∧ fd_fi G c < n ∧ G.2.2.2.1 c = nI (fd_fi G c))) (hD : fd_WD G a_words c) (hv : ∀ v, v < n → a_val v = nI (a v)) (ha : ∀ v, v < n → a v < 32) (h1 : fd_H G c a → post 1) (h0 : ¬ fd_H G c a → post 0) :
    ∀ t j, j + t = fd_sz G c → ∀ x : Int32, x.toInt = fd_sm (fun i => fd_nu G c i * (a (fd_sp G c i) : Int)) j → ∀ q, t < q → wY_holds_209 post (nI (22 * c)) (fd_kd G c) (nI (fd_sz G c)) (nI (22 * c + 6)) f_maxVariables f_maxConstraints f_maxDepth f_vars f_cons f_level f_failed f_termCount f_cellCount f_goalCount f_mode f_found f_exhausted f_current a_made a_dom a_order a_dir a_terms a_cells a_goal a_words a_savedDom a_savedCons a_decision a_val a_seen q x (nI j) := by
  have h8 := hT.1
  obtain ⟨l1, l2, l3, l4, l5⟩ := hL
  obtain ⟨d0, d1, d2, d3, d4, d5, d6, d7⟩ := hD
  have hk4 : G.1 c ≠ 4 := by
    rcases hk with e | e
    · have e : G.1 c = 1 := e
      rw [e]; decide
    · have e : G.1 c = 2 := e.1
      rw [e]; decide
  have e1 : nI (22 * c) + 1 = nI (22 * c + 1) := nI_1 _
  have e2 : nI (22 * c) + 2 = nI (22 * c + 2) := nI_add _ 2
  have e3 : nI (22 * c) + 3 = nI (22 * c + 3) := nI_add _ 3
  have c1 : (nI (22 * c + 1)).toNatClampNeg = 22 * c + 1 := pk_cl _
  have c2 : (nI (22 * c + 2)).toNatClampNeg = 22 * c + 2 := pk_cl _
  have c3 : (nI (22 * c + 3)).toNatClampNeg = 22 * c + 3 := pk_cl _
  intro t
  induction t with
  | zero =>
    intro j hj x hx q hq
    obtain ⟨q, rfl⟩ : ∃ q', q = q' + 1 := ⟨q - 1, by omega⟩
    have ej : j = fd_sz G c := by omega
    have hxs : x.toInt = fd_sum G c a := by rw [hx, ej]; rfl
    refine pk_le (fd_sz G c) j (fun _ => ?_) (fun c => absurd c (by omega))
    rw [e1, e2, e3, c1, c2, c3, d1, d2, d3, l1]
    refine ⟨pk_in (22 * c + 1) 264 (by omega), pk_in (22 * c + 2) 264 (by omega), ?_⟩
    have hct : (G.2.2.1 c).toInt = fd_ct G c := rfl
    rcases hk with e | ⟨e, hf, hff⟩
    · refine fd_ytest l2 (fun hr => br_t e ⟨narrow_b1, h1 ((fd_H1 e).mpr ?_)⟩) (fun hr => br_t e ⟨narrow_b0, h0 (fun z => hr ?_)⟩)
      · rw [hxs, hct] at hr; exact hr
      · rw [hxs, hct]; exact (fd_H1 e).mp z
    · have ef : (nI (fd_fi G c)).toNatClampNeg = fd_fi G c := pk_cl _
      rw [hff, ef]
      have hb := ha _ hf
      have z1 : nI (a (fd_fi G c)) = 1 ↔ a (fd_fi G c) = 1 := nI_eq (b := 1) (by omega) (by omega)
      have z0 : nI (a (fd_fi G c)) = 0 ↔ a (fd_fi G c) = 0 := nI_eq (b := 0) (by omega) (by omega)
      refine fd_ytest l2 (fun hr => br_f (by rw [e]; decide) ⟨pk_in (22 * c + 3) 264 (by omega), fd_in8 (by omega), nm_r (hv _ hf) ?_⟩) (fun hr => br_f (by rw [e]; decide) ⟨pk_in (22 * c + 3) 264 (by omega), fd_in8 (by omega), nm_r (hv _ hf) ?_⟩)
      · rw [hxs, hct] at hr
        by_cases q1 : a (fd_fi G c) = 1
        · exact br_t (z1.mpr q1) (br_f (by decide) (h1 ((fd_H2 e).mpr (Or.inl ⟨q1, hr⟩))))
        · refine br_f (fun z => q1 (z1.mp z)) ?_
          have hno : ¬ fd_H G c a := fun z => by
            rcases (fd_H2 e).mp z with y | y
            · exact q1 y.1
            · exact y.2 hr
          by_cases q0 : a (fd_fi G c) = 0
          · exact br_t (z0.mpr q0) (br_f (by decide) (h0 hno))
          · exact br_f (fun z => q0 (z0.mp z)) (h0 hno)
      · rw [hxs, hct] at hr
        have fin : wY_holds_317 post 0 (nI (a (fd_fi G c))) f_maxVariables f_maxConstraints f_maxDepth f_vars f_cons f_level f_failed f_termCount f_cellCount f_goalCount f_mode f_found f_exhausted f_current a_made a_dom a_order a_dir a_terms a_cells a_goal a_words a_savedDom a_savedCons a_decision a_val a_seen := by
          by_cases q0 : a (fd_fi G c) = 0
          · exact br_t (z0.mpr q0) (br_t rfl (h1 ((fd_H2 e).mpr (Or.inr ⟨q0, hr⟩))))
          · refine br_f (fun z => q0 (z0.mp z)) (h0 (fun z => ?_))
            rcases (fd_H2 e).mp z with y | y
            · exact hr y.2
            · exact q0 y.1
        by_cases q1 : a (fd_fi G c) = 1
        · exact br_t (z1.mpr q1) (br_t rfl fin)
        · exact br_f (fun z => q1 (z1.mp z)) fin
  | succ t ih =>
    intro j hj x hx q hq
    obtain ⟨q, rfl⟩ : ∃ q', q = q' + 1 := ⟨q - 1, by omega⟩
    have hjz : j < fd_sz G c := by omega
    obtain ⟨t1, t2, t3, t4⟩ := hT.2.2.1 j hjz
    obtain ⟨w1, w2⟩ := d6 hk4 j hjz
    have i1 : nI (22 * c + 6) + 2 * nI j = nI (22 * c + 6 + 2 * j) := by
      have : 2 * nI j = nI (2 * j) := pk_mul 2 j
      rw [this, nI_add]
    have i2 : nI (22 * c + 6 + 2 * j) + 1 = nI (22 * c + 6 + 2 * j + 1) := nI_1 _
    have k1 : (nI (22 * c + 6 + 2 * j)).toNatClampNeg = 22 * c + 6 + 2 * j := pk_cl _
    have k2 : (nI (22 * c + 6 + 2 * j + 1)).toNatClampNeg = 22 * c + 6 + 2 * j + 1 := pk_cl _
    have k3 : (nI (fd_sp G c j)).toNatClampNeg = fd_sp G c j := pk_cl _
    refine pk_le (fd_sz G c) j (fun c => absurd c (by omega)) (fun _ => ?_)
    rw [i1, i2, k1, k2, w1, w2, t2, k3]
    refine ⟨pk_in (22 * c + 6 + 2 * j) 264 (by omega), pk_in (22 * c + 6 + 2 * j + 1) 264 (by omega), fd_in8 (by omega), ?_⟩
    intro y ey
    refine nm_r (nI_1 j) (ih (j + 1) (by omega) y ?_ q (by omega))
    have va := ha _ t1
    have eI := fd_vI hv ha t1
    have hnu : (G.2.2.2.2.2.2.1 (16 * c + j)).toInt = fd_nu G c j := rfl
    have mb := fd_mb t3 t4 (g := (a (fd_sp G c j) : Int)) (by omega) (by omega)
    have sb := fd_sm_pbd (f := fun i => fd_nu G c i * (a (fd_sp G c i) : Int)) (m := fd_sz G c) (k := j) h8 (by omega) (fun i hi => by
      obtain ⟨u1, _, u3, u4⟩ := hT.2.2.1 i hi
      have := ha _ u1
      exact fd_mb u3 u4 (by omega) (by omega))
    have em : (G.2.2.2.2.2.2.1 (16 * c + j) * a_val (fd_sp G c j)).toInt = fd_nu G c j * (a (fd_sp G c j) : Int) := by
      rw [fd_mul (by rw [eI, hnu]; omega) (by rw [eI, hnu]; omega), eI, hnu]
    rw [ey, fd_add (by rw [hx, em]; omega) (by rw [hx, em]; omega), hx, em, fd_sm_s]
theorem fd_yh105 {J : Int32 → Prop} {i : Nat} (hn : n ≤ 8) (hc : c < 12) (hT : fd_Tm n G c) (hk4 : G.1 c ≠ 4) (hD : fd_WD G a_words c) (hv : ∀ v, v < n → a_val v = nI (a v)) (ha : ∀ v, v < n → a v < 32) (hi : i < fd_sz G c)
    (h0 : ∀ k, k < i → (a (fd_sp G c i) : Int) + fd_nu G c i = a (fd_sp G c k) + fd_nu G c k → post 0) (h1 : (∀ k, k < i → (a (fd_sp G c i) : Int) + fd_nu G c i ≠ a (fd_sp G c k) + fd_nu G c k) → J (nI (i + 1))) :
    ∀ t k, k + t = i → (∀ k', k' < k → (a (fd_sp G c i) : Int) + fd_nu G c i ≠ a (fd_sp G c k') + fd_nu G c k') → ∀ q, t < q → wY_holds_105 post J (nI (fd_sz G c)) (nI (22 * c + 6)) (nI i) f_maxVariables f_maxConstraints f_maxDepth f_vars f_cons f_level f_failed f_termCount f_cellCount f_goalCount f_mode f_found f_exhausted f_current a_made a_dom a_order a_dir a_terms a_cells a_goal a_words a_savedDom a_savedCons a_decision a_val a_seen q (nI k) := by
  have h8 := hT.1
  obtain ⟨d0, d1, d2, d3, d4, d5, d6, d7⟩ := hD
  have i1 : ∀ j, nI (22 * c + 6) + 2 * nI j = nI (22 * c + 6 + 2 * j) := fun j => by
    have : 2 * nI j = nI (2 * j) := pk_mul 2 j
    rw [this, nI_add]
  have i2 : ∀ j, nI (22 * c + 6 + 2 * j) + 1 = nI (22 * c + 6 + 2 * j + 1) := fun j => nI_1 _
  have k1 : ∀ j, j < 8 → (nI (22 * c + 6 + 2 * j)).toNatClampNeg = 22 * c + 6 + 2 * j := fun j hj => pk_cl _
  have k2 : ∀ j, j < 8 → (nI (22 * c + 6 + 2 * j + 1)).toNatClampNeg = 22 * c + 6 + 2 * j + 1 := fun j hj => pk_cl _
  have val : ∀ j, j < fd_sz G c → (a_val (fd_sp G c j) + G.2.2.2.2.2.2.1 (16 * c + j)).toInt = (a (fd_sp G c j) : Int) + fd_nu G c j := fun j hj => by
    obtain ⟨t1, t2, t3, t4⟩ := hT.2.2.1 j hj
    have va := ha _ t1
    have eI := fd_vI hv ha t1
    have hnu : (G.2.2.2.2.2.2.1 (16 * c + j)).toInt = fd_nu G c j := rfl
    rw [fd_add (by rw [eI, hnu]; omega) (by rw [eI, hnu]; omega), eI, hnu]
  intro t
  induction t with
  | zero =>
    intro k hk hno q hq
    obtain ⟨q, rfl⟩ : ∃ q', q = q' + 1 := ⟨q - 1, by omega⟩
    exact pk_le i k (fun _ => nm_r (nI_1 i) (h1 (fun k' hk' => hno k' (by omega)))) (fun c => absurd c (by omega))
  | succ t ih =>
    intro k hk hno q hq
    obtain ⟨q, rfl⟩ : ∃ q', q = q' + 1 := ⟨q - 1, by omega⟩
    obtain ⟨t1, t2, t3, t4⟩ := hT.2.2.1 i hi
    obtain ⟨w1, w2⟩ := d6 hk4 i hi
    obtain ⟨u1, u2, u3, u4⟩ := hT.2.2.1 k (by omega)
    obtain ⟨y1, y2⟩ := d6 hk4 k (by omega)
    have k3 : (nI (fd_sp G c i)).toNatClampNeg = fd_sp G c i := pk_cl _
    have k4 : (nI (fd_sp G c k)).toNatClampNeg = fd_sp G c k := pk_cl _
    refine pk_le i k (fun c => absurd c (by omega)) (fun _ => ?_)
    rw [i1 i, i1 k, i2 i, i2 k, k1 i (by omega), k1 k (by omega), k2 i (by omega), k2 k (by omega), w1, w2, y1, y2, t2, u2, k3, k4]
    refine ⟨pk_in (22 * c + 6 + 2 * i + 1) 264 (by omega), fd_in8 (by omega), pk_in (22 * c + 6 + 2 * i) 264 (by omega), nm_e ⟨pk_in (22 * c + 6 + 2 * k + 1) 264 (by omega), fd_in8 (by omega), pk_in (22 * c + 6 + 2 * k) 264 (by omega), nm_e ?_⟩⟩
    have vi := val i hi
    have vk := val k (by omega)
    by_cases e : a_val (fd_sp G c i) + G.2.2.2.2.2.2.1 (16 * c + i) = a_val (fd_sp G c k) + G.2.2.2.2.2.2.1 (16 * c + k)
    · refine br_t e (h0 k (by omega) ?_)
      rw [← vi, ← vk, e]
    · refine br_f e (nm_r (nI_1 k) (ih (k + 1) (by omega) (fun k' hk' => ?_) q (by omega)))
      by_cases z : k' = k
      · subst z
        intro y
        rw [← vi, ← vk] at y
        exact e (Int32.toInt_inj.mp y)
      · exact hno k' (by omega)
theorem fd_yh95 (hn : n ≤ 8) (hc : c < 12) (hT : fd_Tm n G c) (hk3 : fd_kd G c = 3) (hD : fd_WD G a_words c) (hv : ∀ v, v < n → a_val v = nI (a v)) (ha : ∀ v, v < n → a v < 32) (h1 : fd_H G c a → post 1) (h0 : ¬ fd_H G c a → post 0) :
    ∀ t i, i + t = fd_sz G c → (∀ j, j < i → ∀ k, k < j → (a (fd_sp G c j) : Int) + fd_nu G c j ≠ a (fd_sp G c k) + fd_nu G c k) → ∀ q, t < q → wY_holds_95 post (nI (fd_sz G c)) (nI (22 * c + 6)) f_maxVariables f_maxConstraints f_maxDepth f_vars f_cons f_level f_failed f_termCount f_cellCount f_goalCount f_mode f_found f_exhausted f_current a_made a_dom a_order a_dir a_terms a_cells a_goal a_words a_savedDom a_savedCons a_decision a_val a_seen q (nI i) := by
  have h8 := hT.1
  have hk4 : G.1 c ≠ 4 := by
    have e : G.1 c = 3 := hk3
    rw [e]; decide
  intro t
  induction t with
  | zero =>
    intro i hi hno q hq
    obtain ⟨q, rfl⟩ : ∃ q', q = q' + 1 := ⟨q - 1, by omega⟩
    refine pk_le (fd_sz G c) i (fun _ => h1 ((fd_H3 hk3).mpr (fun k j hkj hj => ?_))) (fun c => absurd c (by omega))
    exact fun e => hno j (by omega) k hkj e.symm
  | succ t ih =>
    intro i hi hno q hq
    obtain ⟨q, rfl⟩ : ∃ q', q = q' + 1 := ⟨q - 1, by omega⟩
    refine pk_le (fd_sz G c) i (fun c => absurd c (by omega)) (fun _ => ⟨i + 1, fd_yh105 hn hc hT hk4 hD hv ha (by omega) (fun k hk e => h0 (fun z => (fd_H3 hk3).mp z k i hk (by omega) e.symm)) (fun hh => ih (i + 1) (by omega) (fun j hj => ?_) q (by omega)) i 0 (by omega) (fun k hk => absurd hk (by omega)) _ (by omega)⟩)
    by_cases z : j = i
    · subst z; exact hh
    · exact hno j (by omega)
theorem fd_yholds (w : fd_WF n G c) (hn : n ≤ 8) (hc : c < 12) (hD : fd_WD G a_words c) (hv : ∀ v, v < n → a_val v = nI (a v)) (ha : ∀ v, v < n → a v < 32) (h1 : fd_H G c a → post 1) (h0 : ¬ fd_H G c a → post 0) : wpY_holds post (f_maxVariables, f_maxConstraints, f_maxDepth, f_vars, f_cons, f_level, f_failed, f_termCount, f_cellCount, f_goalCount, f_mode, f_found, f_exhausted, f_current, a_made, a_dom, a_order, a_dir, a_terms, a_cells, a_goal, a_words, a_savedDom, a_savedCons, a_decision, a_val, a_seen) (nI c) := by
  have hD' := hD
  obtain ⟨d0, d1, d2, d3, d4, d5, d6, d7⟩ := hD'
  have e0 : nI c * 22 = nI (22 * c) := by
    have e : nI c * 22 = nI (c * 22) := pk_mul c 22
    rw [e, Nat.mul_comm]
  have e3 : nI (22 * c) + 3 = nI (22 * c + 3) := nI_add _ 3
  have e4 : nI (22 * c) + 4 = nI (22 * c + 4) := nI_add _ 4
  have e5 : nI (22 * c) + 5 = nI (22 * c + 5) := nI_add _ 5
  have e6 : nI (22 * c) + 6 = nI (22 * c + 6) := nI_add _ 6
  have c0 : (nI (22 * c)).toNatClampNeg = 22 * c := pk_cl _
  have c3 : (nI (22 * c + 3)).toNatClampNeg = 22 * c + 3 := pk_cl _
  have c4 : (nI (22 * c + 4)).toNatClampNeg = 22 * c + 4 := pk_cl _
  have c5 : (nI (22 * c + 5)).toNatClampNeg = 22 * c + 5 := pk_cl _
  refine nm_r e0 ⟨pk_in (22 * c) 264 (by omega), ?_⟩
  rw [c0, e3, e4, e5, c3, c4, c5, d3, d4]
  have hkd : G.1 c = fd_kd G c := rfl
  refine nm_r (d0.trans hkd) ⟨pk_in (22 * c + 5) 264 (by omega), ?_⟩
  rcases fd_kd4 w with k | k | k | k
  · obtain ⟨hT, hz1, hL, hz2⟩ := fd_WF1 w k
    refine nm_r (d5.trans hT.2.1) (nm_r e6 (br_f (by rw [k]; decide) (br_f (by rw [k]; decide) ⟨fd_sz G c + 1, ?_⟩)))
    exact fd_yh209 hn hc hT hL (Or.inl k) hD hv ha h1 h0 (fd_sz G c) 0 (by omega) 0 rfl _ (by omega)
  · obtain ⟨hT, hz1, hL, hz2, hf, hff, _⟩ := fd_WF2 w k
    refine nm_r (d5.trans hT.2.1) (nm_r e6 (br_f (by rw [k]; decide) (br_f (by rw [k]; decide) ⟨fd_sz G c + 1, ?_⟩)))
    exact fd_yh209 hn hc hT hL (Or.inr ⟨k, hf, hff⟩) hD hv ha h1 h0 (fd_sz G c) 0 (by omega) 0 rfl _ (by omega)
  · obtain ⟨hT, hz1⟩ := fd_WF3 w k
    refine nm_r (d5.trans hT.2.1) (nm_r e6 (br_f (by rw [k]; decide) (br_t k ⟨fd_sz G c + 1, ?_⟩)))
    exact fd_yh95 hn hc hT k hD hv ha h1 h0 (fd_sz G c) 0 (by omega) (fun j hj => absurd hj (by omega)) _ (by omega)
  · obtain ⟨w1, f1, w2, f2, w3, w5, w6, hz, w4⟩ := fd_WF4 w k
    have cF : (nI (fd_fi G c)).toNatClampNeg = fd_fi G c := pk_cl _
    have cS : (nI (fd_se G c)).toNatClampNeg = fd_se G c := pk_cl _
    rw [f1, f2, cF, cS]
    refine nm_r (d5.trans hz) (nm_r e6 (br_t k ⟨pk_in (22 * c + 3) 264 (by omega), fd_in8 (by omega), nm_r (hv _ w1) ?_⟩))
    have va := ha _ w1
    have vs := ha _ w2
    refine pk_le (fd_sz G c) (a (fd_fi G c)) (fun q => h0 (fun z => by have := ((fd_H4 k).mp z).1; omega)) (fun q => ?_)
    have i1 : nI (22 * c + 6) + nI (a (fd_fi G c)) = nI (22 * c + 6 + a (fd_fi G c)) := nI_add _ _
    have k1 : (nI (22 * c + 6 + a (fd_fi G c))).toNatClampNeg = 22 * c + 6 + a (fd_fi G c) := pk_cl _
    have hx := w4 _ q
    have en : a_words (22 * c + 6 + a (fd_fi G c)) = nI (fd_nu G c (a (fd_fi G c))).toNat := by
      rw [d7 k _ q]; exact fd_ofI hx.1
    rw [i1, k1, en, hv _ w2]
    refine ⟨pk_in (22 * c + 4) 264 (by omega), fd_in8 (by omega), pk_in (22 * c + 6 + a (fd_fi G c)) 264 (by omega), ?_⟩
    refine pk_eq (a (fd_se G c)) (fd_nu G c (a (fd_fi G c))).toNat (fun e => h1 ((fd_H4 k).mpr ⟨q, by omega⟩)) (fun e => h0 (fun z => e (by have := ((fd_H4 k).mp z).2; omega)))
theorem fd_yall2 {m : Nat} (hw : ∀ c, c < m → fd_WF n G c) (hn : n ≤ 8) (hm : m ≤ 12) (hcs : f_cons = nI m) (hD : ∀ c, c < m → fd_WD G a_words c) (hv : ∀ v, v < n → a_val v = nI (a v)) (ha : ∀ v, v < n → a v < 32) (h1 : (∀ c, c < m → fd_H G c a) → post 1) (h0 : ¬ (∀ c, c < m → fd_H G c a) → post 0) :
    ∀ t c, c + t = m → (∀ c', c' < c → fd_H G c' a) → ∀ q, t < q → wY_allHold_2 post f_maxVariables f_maxConstraints f_maxDepth f_vars f_cons f_level f_failed f_termCount f_cellCount f_goalCount f_mode f_found f_exhausted f_current a_made a_dom a_order a_dir a_terms a_cells a_goal a_words a_savedDom a_savedCons a_decision a_val a_seen q (nI c) := by
  subst hcs
  intro t
  induction t with
  | zero =>
    intro c hc hh q hq
    obtain ⟨q, rfl⟩ : ∃ q', q = q' + 1 := ⟨q - 1, by omega⟩
    exact pk_le m c (fun _ => h1 (fun c' hc' => hh c' (by omega))) (fun c => absurd c (by omega))
  | succ t ih =>
    intro c hc hh q hq
    obtain ⟨q, rfl⟩ : ∃ q', q = q' + 1 := ⟨q - 1, by omega⟩
    refine pk_le m c (fun c => absurd c (by omega)) (fun _ => fd_yholds (hw c (by omega)) hn (by omega) (hD c (by omega)) hv ha (fun hH => ?_) (fun hH => ?_))
    · refine br_f (by decide) (nm_r (nI_1 c) (ih (c + 1) (by omega) (fun c' hc' => ?_) q (by omega)))
      by_cases z : c' = c
      · rw [z]; exact hH
      · exact hh c' (by omega)
    · exact br_t rfl (h0 (fun z => hH (z c (by omega))))
theorem fd_yall {m : Nat} (hw : ∀ c, c < m → fd_WF n G c) (hn : n ≤ 8) (hm : m ≤ 12) (hcs : f_cons = nI m) (hD : ∀ c, c < m → fd_WD G a_words c) (hv : ∀ v, v < n → a_val v = nI (a v)) (ha : ∀ v, v < n → a v < 32) (h1 : (∀ c, c < m → fd_H G c a) → post 1) (h0 : ¬ (∀ c, c < m → fd_H G c a) → post 0) : wpY_allHold post (f_maxVariables, f_maxConstraints, f_maxDepth, f_vars, f_cons, f_level, f_failed, f_termCount, f_cellCount, f_goalCount, f_mode, f_found, f_exhausted, f_current, a_made, a_dom, a_order, a_dir, a_terms, a_cells, a_goal, a_words, a_savedDom, a_savedCons, a_decision, a_val, a_seen) :=
  ⟨m + 1, fd_yall2 hw hn hm hcs hD hv ha h1 h0 m 0 (by omega) (fun c hc => absurd hc (by omega)) _ (by omega)⟩
/-- the goal is what stands in X's slot 12 -/
def fd_Go (G : fd_FC) (go : Nat → Int32) : Prop := ∀ j, j < fd_sz G 12 → go (2 * j) = G.2.2.2.2.2.2.1 (16 * 12 + j) ∧ go (2 * j + 1) = G.2.2.2.2.2.2.2 (16 * 12 + j)
theorem fd_yobj4 (hn : n ≤ 8) (hT : fd_Tm n G 12) (hg : fd_Go G a_goal) (hgc : f_goalCount = nI (fd_sz G 12)) (hv : ∀ v, v < n → a_val v = nI (a v)) (ha : ∀ v, v < n → a v < 32) (h : ∀ r : Int32, r.toInt = fd_sum G 12 a → post r) :
    ∀ t j, j + t = fd_sz G 12 → ∀ x : Int32, x.toInt = fd_sm (fun i => fd_nu G 12 i * (a (fd_sp G 12 i) : Int)) j → ∀ q, t < q → wY_objective_4 post f_maxVariables f_maxConstraints f_maxDepth f_vars f_cons f_level f_failed f_termCount f_cellCount f_goalCount f_mode f_found f_exhausted f_current a_made a_dom a_order a_dir a_terms a_cells a_goal a_words a_savedDom a_savedCons a_decision a_val a_seen q x (nI j) := by
  subst hgc
  have h8 := hT.1
  intro t
  induction t with
  | zero =>
    intro j hj x hx q hq
    obtain ⟨q, rfl⟩ : ∃ q', q = q' + 1 := ⟨q - 1, by omega⟩
    have e : j = fd_sz G 12 := by omega
    exact pk_le (fd_sz G 12) j (fun _ => h x (by rw [hx, e]; rfl)) (fun c => absurd c (by omega))
  | succ t ih =>
    intro j hj x hx q hq
    obtain ⟨q, rfl⟩ : ∃ q', q = q' + 1 := ⟨q - 1, by omega⟩
    have hjz : j < fd_sz G 12 := by omega
    obtain ⟨t1, t2, t3, t4⟩ := hT.2.2.1 j hjz
    obtain ⟨w1, w2⟩ := hg j hjz
    have i1 : 2 * nI j = nI (2 * j) := pk_mul 2 j
    have i2 : nI (2 * j) + 1 = nI (2 * j + 1) := nI_1 _
    have k1 : (nI (2 * j)).toNatClampNeg = 2 * j := pk_cl _
    have k2 : (nI (2 * j + 1)).toNatClampNeg = 2 * j + 1 := pk_cl _
    have k3 : (nI (fd_sp G 12 j)).toNatClampNeg = fd_sp G 12 j := pk_cl _
    refine pk_le (fd_sz G 12) j (fun c => absurd c (by omega)) (fun _ => ?_)
    rw [i1, i2, k1, k2, w1, w2, t2, k3]
    refine ⟨pk_in (2 * j) 16 (by omega), pk_in (2 * j + 1) 16 (by omega), fd_in8 (by omega), ?_⟩
    intro y ey
    refine nm_r (nI_1 j) (ih (j + 1) (by omega) y ?_ q (by omega))
    have va := ha _ t1
    have eI := fd_vI hv ha t1
    have hnu : (G.2.2.2.2.2.2.1 (16 * 12 + j)).toInt = fd_nu G 12 j := rfl
    have mb := fd_mb t3 t4 (g := (a (fd_sp G 12 j) : Int)) (by omega) (by omega)
    have sb := fd_sm_pbd (f := fun i => fd_nu G 12 i * (a (fd_sp G 12 i) : Int)) (m := fd_sz G 12) (k := j) h8 (by omega) (fun i hi => by
      obtain ⟨u1, _, u3, u4⟩ := hT.2.2.1 i hi
      have := ha _ u1
      exact fd_mb u3 u4 (by omega) (by omega))
    have em : (G.2.2.2.2.2.2.1 (16 * 12 + j) * a_val (fd_sp G 12 j)).toInt = fd_nu G 12 j * (a (fd_sp G 12 j) : Int) := by
      rw [fd_mul (by rw [eI, hnu]; omega) (by rw [eI, hnu]; omega), eI, hnu]
    rw [ey, fd_add (by rw [hx, em]; omega) (by rw [hx, em]; omega), hx, em, fd_sm_s]
theorem fd_yobj (hn : n ≤ 8) (hT : fd_Tm n G 12) (hg : fd_Go G a_goal) (hgc : f_goalCount = nI (fd_sz G 12)) (hv : ∀ v, v < n → a_val v = nI (a v)) (ha : ∀ v, v < n → a v < 32) (h : ∀ r : Int32, r.toInt = fd_sum G 12 a → post r) : wpY_objective post (f_maxVariables, f_maxConstraints, f_maxDepth, f_vars, f_cons, f_level, f_failed, f_termCount, f_cellCount, f_goalCount, f_mode, f_found, f_exhausted, f_current, a_made, a_dom, a_order, a_dir, a_terms, a_cells, a_goal, a_words, a_savedDom, a_savedCons, a_decision, a_val, a_seen) :=
  ⟨fd_sz G 12 + 1, fd_yobj4 hn hT hg hgc hv ha h (fd_sz G 12) 0 (by omega) 0 rfl _ (by omega)⟩
end
end
section
/-! ===== Y: close ===== -/
/-- what Y's closure reads and never writes -/
def fd_CY (n m : Nat) (G : fd_FC) (o : Nat → Nat) (vars cons : Int32) (order wd : Nat → Int32) : Prop :=
  n ≤ 8 ∧ m ≤ 12 ∧ vars = nI n ∧ cons = nI m ∧ fd_Perm n o ∧ (∀ p, p < n → order p = nI (o p)) ∧ (∀ c, c < m → fd_WF n G c) ∧ (∀ c, c < m → fd_WD G wd c)
def fd_Cld (n m : Nat) (G : fd_FC) (D : Nat → Int32) : Prop := ∀ c, c < m → ∀ v, v < n → ∀ d, bt (D v) d = true → fd_PJ n D (fd_H G c) v d
/-- one pass, constraints below c done: D0 the first, D1 at the pass's start, D now -/
def fd_Ps (n m : Nat) (G : fd_FC) (D0 D1 : Nat → Int32) (c : Nat) (x1 : Int32) (D : Nat → Int32) : Prop :=
  fd_Sub n D D0 ∧ (∀ E, fd_Good n m G E → fd_Sub n E D0 → fd_Sub n E D) ∧ fd_Sub n D D1 ∧ (∀ v, n ≤ v → D v = D0 v) ∧
  ((x1 = 0 ∧ (∀ v, v < n → D v = D1 v) ∧ fd_Cld n c G D) ∨ (x1 = 1 ∧ fd_ns (fun v => fd_pc (D v)) n < fd_ns (fun v => fd_pc (D1 v)) n))
theorem fd_Ps_s {n m : Nat} {G : fd_FC} {D0 D1 D D' : Nat → Int32} {c : Nat} {x1 x1' : Int32} (hw : ∀ c, c < m → fd_WF n G c) (hc : c < m) (h : fd_Ps n m G D0 D1 c x1 D) (hD : ∀ v, v < n → ∀ d, bt (D' v) d = true ↔ fd_PJ n D (fd_H G c) v d) (ho : ∀ v, n ≤ v → D' v = D v) (hx : (x1' = x1 ∧ ∀ v, v < n → D' v = D v) ∨ (x1' = 1 ∧ ∃ v, v < n ∧ D' v ≠ D v)) : fd_Ps n m G D0 D1 (c + 1) x1' D' := by
  obtain ⟨h1, h2, h3, h4, h5⟩ := h
  have hs : fd_Sub n D' D := fun v hv d hd => by
    obtain ⟨a, ha, _, e⟩ := (hD v hv d).mp hd
    rw [← e]; exact ha v hv
  refine ⟨fd_Sub_tr hs h1, fun E hE hE0 v hv d hd => ?_, fd_Sub_tr hs h3, fun v hv => by rw [ho v hv, h4 v hv], ?_⟩
  · exact (hD v hv d).mpr (fd_PJ_mono (h2 E hE hE0) (fd_Good_PJ (hw c hc) hE.1 (hE.2 c hc) hv hd))
  · rcases hx with ⟨e, heq⟩ | ⟨e, v, hv, hne⟩
    · rcases h5 with ⟨z, heq1, hcl⟩ | ⟨z, hlt⟩
      · refine Or.inl ⟨by rw [e, z], fun v hv => by rw [heq v hv, heq1 v hv], fun c' hc' v hv d hd => ?_⟩
        have sD : fd_Sub n D D' := fun v hv d hd => by rw [heq v hv]; exact hd
        by_cases q : c' = c
        · subst q
          exact fd_PJ_mono sD ((hD v hv d).mp hd)
        · rw [heq v hv] at hd
          exact fd_PJ_mono sD (hcl c' (by omega) v hv d hd)
      · refine Or.inr ⟨by rw [e, z], ?_⟩
        rw [fd_ns_congr (g := fun v => fd_pc (D v)) (fun v hv => by rw [heq v hv])]; exact hlt
    · have hlt : fd_ns (fun v => fd_pc (D' v)) n < fd_ns (fun v => fd_pc (D v)) n := fd_ns_lt (fun v hv => fd_pc_mono (hs v hv)) hv (fd_pc_lt (hs v hv) hne)
      have hle : fd_ns (fun v => fd_pc (D v)) n ≤ fd_ns (fun v => fd_pc (D1 v)) n := fd_ns_mono (fun v hv => fd_pc_mono (h3 v hv))
      exact Or.inr ⟨e, by omega⟩
section
variable {f_maxVariables f_maxConstraints f_maxDepth f_vars f_cons f_level f_failed f_termCount f_cellCount f_goalCount f_mode f_found f_exhausted f_current : Int32} {a_made a_dom a_order a_dir a_terms a_cells a_goal a_words a_savedDom a_savedCons a_decision a_val a_seen : Nat → Int32} {post : Int32 → SY → Prop} {n m c : Nat} {G : fd_FC} {o : Nat → Nat}
theorem fd_yc86 {J4 J19 : Int32 → Int32 → Int32 → Int32 → Int32 → Int32 → Int32 → Int32 → Int32 → Int32 → Int32 → Int32 → Int32 → Int32 → Int32 → Int32 → (Nat → Int32) → (Nat → Int32) → (Nat → Int32) → (Nat → Int32) → (Nat → Int32) → (Nat → Int32) → (Nat → Int32) → (Nat → Int32) → (Nat → Int32) → (Nat → Int32) → (Nat → Int32) → (Nat → Int32) → (Nat → Int32) → Prop} {J : Int32 → Int32 → Int32 → Int32 → Int32 → Int32 → Int32 → Int32 → Int32 → Int32 → Int32 → Int32 → Int32 → Int32 → Int32 → (Nat → Int32) → (Nat → Int32) → (Nat → Int32) → (Nat → Int32) → (Nat → Int32) → (Nat → Int32) → (Nat → Int32) → (Nat → Int32) → (Nat → Int32) → (Nat → Int32) → (Nat → Int32) → (Nat → Int32) → (Nat → Int32) → Prop} {x1 x2 x3 x4 : Int32} {t : Nat} {a : Nat → Nat} (hn : n ≤ 8) (hv : f_vars = nI n) (hval : ∀ v, v < n → a_val v = nI (a v)) (ha : ∀ v, v < n → a v < 32)
    (h : ∀ sn, (∀ v, v < n → ∀ d, bt (sn v) d = true ↔ (bt (a_seen v) d = true ∨ d = a v)) → J (nI (t + 1)) f_maxVariables f_maxConstraints f_maxDepth f_vars f_cons f_level f_failed f_termCount f_cellCount f_goalCount f_mode f_found f_exhausted f_current a_made a_dom a_order a_dir a_terms a_cells a_goal a_words a_savedDom a_savedCons a_decision a_val sn) :
    ∀ k i, i + k = n → ∀ sn, (∀ v, v < i → ∀ d, bt (sn v) d = true ↔ (bt (a_seen v) d = true ∨ d = a v)) → (∀ v, i ≤ v → sn v = a_seen v) → ∀ q, k < q → wY_close_86 post J4 J19 J x1 x2 x3 x4 (nI t) f_maxVariables f_maxConstraints f_maxDepth f_vars f_cons f_level f_failed f_termCount f_cellCount f_goalCount f_mode f_found f_exhausted f_current q (nI i) a_made a_dom a_order a_dir a_terms a_cells a_goal a_words a_savedDom a_savedCons a_decision a_val sn := by
  subst hv
  intro k
  induction k with
  | zero =>
    intro i hi sn h1 h2 q hq
    obtain ⟨q, rfl⟩ : ∃ q', q = q' + 1 := ⟨q - 1, by omega⟩
    exact pk_le n i (fun _ => nm_r (nI_1 t) (h sn (fun v hv => h1 v (by omega)))) (fun c => absurd c (by omega))
  | succ k ih =>
    intro i hi sn h1 h2 q hq
    obtain ⟨q, rfl⟩ : ∃ q', q = q' + 1 := ⟨q - 1, by omega⟩
    have ei : (nI i).toNatClampNeg = i := pk_cl i
    refine pk_le n i (fun c => absurd c (by omega)) (fun _ => ?_)
    rw [ei, hval i (by omega)]
    refine ⟨pk_in i 8 (by omega), pk_in i 8 (by omega), pk_in i 8 (by omega), nm_e (nm_r (nI_1 i) (ih (i + 1) (by omega) _ (fun v hv d => ?_) (fun v hv => ?_) q (by omega)))⟩
    · by_cases e : v = i
      · subst e
        rw [pk_us, fd_or1 _ (ha v (by omega)), Bool.or_eq_true, decide_eq_true_iff, h2 v (Nat.le_refl _)]
      · rw [pk_un e]; exact h1 v (by omega) d
    · rw [pk_un (by omega)]; exact h2 v (by omega)
theorem fd_yc129 {J4 J19 : Int32 → Int32 → Int32 → Int32 → Int32 → Int32 → Int32 → Int32 → Int32 → Int32 → Int32 → Int32 → Int32 → Int32 → Int32 → Int32 → (Nat → Int32) → (Nat → Int32) → (Nat → Int32) → (Nat → Int32) → (Nat → Int32) → (Nat → Int32) → (Nat → Int32) → (Nat → Int32) → (Nat → Int32) → (Nat → Int32) → (Nat → Int32) → (Nat → Int32) → (Nat → Int32) → Prop} {x1 x2 : Int32} (hn : n ≤ 8) (hv : f_vars = nI n)
    (h : ∀ x1' dm, (∀ v, v < n → dm v = a_seen v) → (∀ v, n ≤ v → dm v = a_dom v) → ((x1' = x1 ∧ ∀ v, v < n → a_seen v = a_dom v) ∨ (x1' = 1 ∧ ∃ v, v < n ∧ a_seen v ≠ a_dom v)) → J19 x1' (nI (c + 1)) f_maxVariables f_maxConstraints f_maxDepth f_vars f_cons f_level f_failed f_termCount f_cellCount f_goalCount f_mode f_found f_exhausted f_current a_made dm a_order a_dir a_terms a_cells a_goal a_words a_savedDom a_savedCons a_decision a_val a_seen) :
    ∀ k i, i + k = n → ∀ y dm, (∀ v, v < i → dm v = a_seen v) → (∀ v, i ≤ v → dm v = a_dom v) → ((y = x1 ∧ ∀ v, v < i → a_seen v = a_dom v) ∨ (y = 1 ∧ ∃ v, v < i ∧ a_seen v ≠ a_dom v)) → ∀ q, k < q → wY_close_129 post J4 J19 x2 (nI c) f_maxVariables f_maxConstraints f_maxDepth f_vars f_cons f_level f_failed f_termCount f_cellCount f_goalCount f_mode f_found f_exhausted f_current q y (nI i) a_made dm a_order a_dir a_terms a_cells a_goal a_words a_savedDom a_savedCons a_decision a_val a_seen := by
  subst hv
  intro k
  induction k with
  | zero =>
    intro i hi y dm h1 h2 h3 q hq
    obtain ⟨q, rfl⟩ : ∃ q', q = q' + 1 := ⟨q - 1, by omega⟩
    have e : i = n := by omega
    subst e
    exact pk_le i i (fun _ => nm_r (nI_1 c) (h y dm h1 h2 h3)) (fun c => absurd c (by omega))
  | succ k ih =>
    intro i hi y dm h1 h2 h3 q hq
    obtain ⟨q, rfl⟩ : ∃ q', q = q' + 1 := ⟨q - 1, by omega⟩
    have ei : (nI i).toNatClampNeg = i := pk_cl i
    refine pk_le n i (fun c => absurd c (by omega)) (fun _ => ?_)
    have step : ∀ y', ((y' = x1 ∧ ∀ v, v < i + 1 → a_seen v = a_dom v) ∨ (y' = 1 ∧ ∃ v, v < i + 1 ∧ a_seen v ≠ a_dom v)) → wY_close_157 post J4 J19 (wY_close_129 post J4 J19 x2 (nI c) f_maxVariables f_maxConstraints f_maxDepth (nI n) f_cons f_level f_failed f_termCount f_cellCount f_goalCount f_mode f_found f_exhausted f_current q) y' x2 (nI c) (nI i) f_maxVariables f_maxConstraints f_maxDepth (nI n) f_cons f_level f_failed f_termCount f_cellCount f_goalCount f_mode f_found f_exhausted f_current a_made dm a_order a_dir a_terms a_cells a_goal a_words a_savedDom a_savedCons a_decision a_val a_seen := by
      intro y' hy
      unfold wY_close_157
      rw [ei]
      refine ⟨pk_in i 8 (by omega), pk_in i 8 (by omega), nm_e (nm_r (nI_1 i) (ih (i + 1) (by omega) y' _ (fun v hv => ?_) (fun v hv => ?_) hy q (by omega)))⟩
      · by_cases e : v = i
        · rw [e, pk_us]
        · rw [pk_un e]; exact h1 v (by omega)
      · rw [pk_un (by omega)]; exact h2 v (by omega)
    rw [ei, h2 i (Nat.le_refl _)]
    refine ⟨pk_in i 8 (by omega), pk_in i 8 (by omega), ?_⟩
    by_cases e : a_seen i = a_dom i
    · refine br_t e (step y ?_)
      rcases h3 with ⟨a, b⟩ | ⟨a, v, b1, b2⟩
      · refine Or.inl ⟨a, fun v hv => ?_⟩
        by_cases z : v = i
        · rw [z]; exact e
        · exact b v (by omega)
      · exact Or.inr ⟨a, v, by omega, b2⟩
    · exact br_f e (step 1 (Or.inr ⟨rfl, i, by omega, e⟩))
theorem fd_yc62 {J4 J19 : Int32 → Int32 → Int32 → Int32 → Int32 → Int32 → Int32 → Int32 → Int32 → Int32 → Int32 → Int32 → Int32 → Int32 → Int32 → Int32 → (Nat → Int32) → (Nat → Int32) → (Nat → Int32) → (Nat → Int32) → (Nat → Int32) → (Nat → Int32) → (Nat → Int32) → (Nat → Int32) → (Nat → Int32) → (Nat → Int32) → (Nat → Int32) → (Nat → Int32) → (Nat → Int32) → Prop} {x1 x2 : Int32} (hC : fd_CY n m G o f_vars f_cons a_order a_words) (hc : c < m) (ht : fd_tot n a_dom ≤ 1024)
    (h : ∀ x1' dm val sn, (∀ v, v < n → ∀ d, bt (dm v) d = true ↔ fd_PJ n a_dom (fd_H G c) v d) → (∀ v, n ≤ v → dm v = a_dom v) → ((x1' = x1 ∧ ∀ v, v < n → dm v = a_dom v) ∨ (x1' = 1 ∧ ∃ v, v < n ∧ dm v ≠ a_dom v)) → J19 x1' (nI (c + 1)) f_maxVariables f_maxConstraints f_maxDepth f_vars f_cons f_level f_failed f_termCount f_cellCount f_goalCount f_mode f_found f_exhausted f_current a_made dm a_order a_dir a_terms a_cells a_goal a_words a_savedDom a_savedCons a_decision val sn) :
    ∀ k t, t + k = fd_tot n a_dom → ∀ va sn, (∀ v, v < n → ∀ d, bt (sn v) d = true ↔ ∃ a, fd_In n a_dom a ∧ fd_nm n a_dom o a_dir a < t ∧ fd_H G c a ∧ a v = d) → ∀ q, k < q → wY_close_62 post J4 J19 x1 x2 (nI c) (nI (fd_tot n a_dom)) q (nI t) f_maxVariables f_maxConstraints f_maxDepth f_vars f_cons f_level f_failed f_termCount f_cellCount f_goalCount f_mode f_found f_exhausted f_current a_made a_dom a_order a_dir a_terms a_cells a_goal a_words a_savedDom a_savedCons a_decision va sn := by
  obtain ⟨hn, hm, hv, hcs, hp, ho, hw, hD⟩ := hC
  intro k
  induction k with
  | zero =>
    intro t htt va sn hs q hq
    obtain ⟨q, rfl⟩ : ∃ q', q = q' + 1 := ⟨q - 1, by omega⟩
    have e : t = fd_tot n a_dom := by omega
    refine pk_le (fd_tot n a_dom) t (fun _ => ⟨n + 1, ?_⟩) (fun c => absurd c (by omega))
    have hs' : ∀ v, v < n → ∀ d, bt (sn v) d = true ↔ fd_PJ n a_dom (fd_H G c) v d := fun v hv d => by
      rw [hs v hv d]
      constructor
      · rintro ⟨a, x, _, y, z⟩; exact ⟨a, x, y, z⟩
      · rintro ⟨a, x, y, z⟩; exact ⟨a, x, by rw [e]; exact fd_nm_lt hp x, y, z⟩
    refine fd_yc129 (a_val := va) (a_seen := sn) hn hv (fun x1' dm h1 h2 h3 => ?_) n 0 (by omega) x1 a_dom (fun v hv => absurd hv (by omega)) (fun _ _ => rfl) (Or.inl ⟨rfl, fun v hv => absurd hv (by omega)⟩) _ (by omega)
    refine h x1' dm va sn (fun v hv d => by rw [h1 v hv]; exact hs' v hv d) h2 ?_
    rcases h3 with ⟨a, b⟩ | ⟨a, v, b1, b2⟩
    · exact Or.inl ⟨a, fun v hv => by rw [h1 v hv]; exact b v hv⟩
    · exact Or.inr ⟨a, v, b1, by rw [h1 v b1]; exact b2⟩
  | succ k ih =>
    intro t htt va sn hs q hq
    obtain ⟨q, rfl⟩ : ∃ q', q = q' + 1 := ⟨q - 1, by omega⟩
    refine pk_le (fd_tot n a_dom) t (fun c => absurd c (by omega)) (fun _ => ?_)
    refine fd_ydecode (a_val := va) (a_seen := sn) hn hv hp ho ht (by omega) (fun val' a ha hnm hval => ?_)
    have ha32 : ∀ v, v < n → a v < 32 := fun v hv => fd_lt (ha v hv)
    have same : ∀ b, fd_In n a_dom b → fd_nm n a_dom o a_dir b = t → ∀ v, v < n → b v = a v := fun b hb hbt => fd_nm_inj hp hb ha (by rw [hbt, hnm])
    refine fd_yholds (a_val := val') (a_seen := sn) (hw c hc) hn (by omega) (hD c hc) hval ha32 (fun hH => ?_) (fun hH => ?_)
    · refine br_f (by decide) ⟨n + 1, fd_yc86 (a_val := val') (a_seen := sn) hn hv hval ha32 (fun sn' hsn => ih (t + 1) (by omega) val' sn' (fun v hv d => ?_) q (by omega)) n 0 (by omega) sn (fun v hv => absurd hv (by omega)) (fun _ _ => rfl) _ (by omega)⟩
      rw [hsn v hv d, hs v hv d]
      constructor
      · rintro (⟨b, x, y, z⟩ | e)
        · exact ⟨b, x, by omega, z⟩
        · exact ⟨a, ha, by omega, hH, e.symm⟩
      · rintro ⟨b, x, y, z1, z2⟩
        by_cases e : fd_nm n a_dom o a_dir b = t
        · right; rw [← z2]; exact same b x e v hv
        · exact Or.inl ⟨b, x, by omega, z1, z2⟩
    · refine br_t rfl (nm_r (nI_1 t) (ih (t + 1) (by omega) val' sn (fun v hv d => ?_) q (by omega)))
      rw [hs v hv d]
      constructor
      · rintro ⟨b, x, y, z⟩; exact ⟨b, x, by omega, z⟩
      · rintro ⟨b, x, y, z1, z2⟩
        by_cases e : fd_nm n a_dom o a_dir b = t
        · exact absurd (fd_dep (hw c hc) (fun u hu => same b x e u (fd_Sc_lt (hw c hc) hu)) z1) hH
        · exact ⟨b, x, by omega, z1, z2⟩
theorem fd_yc30 {J4 J19 : Int32 → Int32 → Int32 → Int32 → Int32 → Int32 → Int32 → Int32 → Int32 → Int32 → Int32 → Int32 → Int32 → Int32 → Int32 → Int32 → (Nat → Int32) → (Nat → Int32) → (Nat → Int32) → (Nat → Int32) → (Nat → Int32) → (Nat → Int32) → (Nat → Int32) → (Nat → Int32) → (Nat → Int32) → (Nat → Int32) → (Nat → Int32) → (Nat → Int32) → (Nat → Int32) → Prop} {x1 x2 : Int32} (hC : fd_CY n m G o f_vars f_cons a_order a_words) (hc : c < m) (ht : fd_tot n a_dom ≤ 1024)
    (h : ∀ x1' dm val sn, (∀ v, v < n → ∀ d, bt (dm v) d = true ↔ fd_PJ n a_dom (fd_H G c) v d) → (∀ v, n ≤ v → dm v = a_dom v) → ((x1' = x1 ∧ ∀ v, v < n → dm v = a_dom v) ∨ (x1' = 1 ∧ ∃ v, v < n ∧ dm v ≠ a_dom v)) → J19 x1' (nI (c + 1)) f_maxVariables f_maxConstraints f_maxDepth f_vars f_cons f_level f_failed f_termCount f_cellCount f_goalCount f_mode f_found f_exhausted f_current a_made dm a_order a_dir a_terms a_cells a_goal a_words a_savedDom a_savedCons a_decision val sn) :
    ∀ k i, i + k = n → ∀ sn, (∀ v, v < i → sn v = 0) → ∀ q, k < q → wY_close_30 post J4 J19 x1 x2 (nI c) f_maxVariables f_maxConstraints f_maxDepth f_vars f_cons f_level f_failed f_termCount f_cellCount f_goalCount f_mode f_found f_exhausted f_current q (nI i) a_made a_dom a_order a_dir a_terms a_cells a_goal a_words a_savedDom a_savedCons a_decision a_val sn := by
  have hC' := hC
  obtain ⟨hn, hm, hv, hcs, hp, ho, hw, hD⟩ := hC'
  intro k
  induction k with
  | zero =>
    intro i hi sn hs q hq
    obtain ⟨q, rfl⟩ : ∃ q', q = q' + 1 := ⟨q - 1, by omega⟩
    refine pk_le n i (fun _ => fd_ytot (a_seen := sn) hn hv ⟨fd_tot n a_dom + 1, ?_⟩) (fun c => absurd c (by omega)) (hx := hv)
    refine fd_yc62 hC hc ht h (fd_tot n a_dom) 0 (by omega) a_val sn (fun v hv d => ?_) _ (by omega)
    rw [hs v (by omega), b_0]
    exact ⟨fun z => absurd z (by decide), fun ⟨a, _, z, _⟩ => absurd z (by omega)⟩
  | succ k ih =>
    intro i hi sn hs q hq
    obtain ⟨q, rfl⟩ : ∃ q', q = q' + 1 := ⟨q - 1, by omega⟩
    have ei : (nI i).toNatClampNeg = i := pk_cl i
    refine pk_le n i (fun c => absurd c (by omega)) (fun _ => ⟨pk_in i 8 (by omega), ?_⟩) (hx := hv)
    rw [ei]
    refine nm_e (nm_r (nI_1 i) (ih (i + 1) (by omega) _ (fun v hv => ?_) q (by omega)))
    by_cases e : v = i
    · rw [e, pk_us]
    · rw [pk_un e]; exact hs v (by omega)
theorem fd_yc19 {J4 : Int32 → Int32 → Int32 → Int32 → Int32 → Int32 → Int32 → Int32 → Int32 → Int32 → Int32 → Int32 → Int32 → Int32 → Int32 → Int32 → (Nat → Int32) → (Nat → Int32) → (Nat → Int32) → (Nat → Int32) → (Nat → Int32) → (Nat → Int32) → (Nat → Int32) → (Nat → Int32) → (Nat → Int32) → (Nat → Int32) → (Nat → Int32) → (Nat → Int32) → (Nat → Int32) → Prop} {p : Nat} {D0 D1 : Nat → Int32} (hC : fd_CY n m G o f_vars f_cons a_order a_words) (ht : fd_tot n D0 ≤ 1024)
    (h : ∀ x1' dm val sn, fd_Ps n m G D0 D1 m x1' dm → J4 x1' (nI (p + 1)) f_maxVariables f_maxConstraints f_maxDepth f_vars f_cons f_level f_failed f_termCount f_cellCount f_goalCount f_mode f_found f_exhausted f_current a_made dm a_order a_dir a_terms a_cells a_goal a_words a_savedDom a_savedCons a_decision val sn) :
    ∀ k c, c + k = m → ∀ x1 dm val sn, fd_Ps n m G D0 D1 c x1 dm → ∀ q, k < q → wY_close_19 post J4 (nI p) q x1 (nI c) f_maxVariables f_maxConstraints f_maxDepth f_vars f_cons f_level f_failed f_termCount f_cellCount f_goalCount f_mode f_found f_exhausted f_current a_made dm a_order a_dir a_terms a_cells a_goal a_words a_savedDom a_savedCons a_decision val sn := by
  have hC' := hC
  obtain ⟨hn, hm, hv, hcs, hp, ho, hw, hD⟩ := hC'
  intro k
  induction k with
  | zero =>
    intro c hc x1 dm val sn hPs q hq
    obtain ⟨q, rfl⟩ : ∃ q', q = q' + 1 := ⟨q - 1, by omega⟩
    have e : c = m := by omega
    subst e
    exact pk_le c c (fun _ => nm_r (nI_1 p) (h x1 dm val sn hPs)) (fun c => absurd c (by omega)) (hx := hcs)
  | succ k ih =>
    intro c hc x1 dm val sn hPs q hq
    obtain ⟨q, rfl⟩ : ∃ q', q = q' + 1 := ⟨q - 1, by omega⟩
    have htd : fd_tot n dm ≤ 1024 := Nat.le_trans (fd_tot_sub hPs.1) ht
    refine pk_le m c (fun c => absurd c (by omega)) (fun _ => ⟨n + 1, ?_⟩) (hx := hcs)
    refine fd_yc30 (a_dom := dm) (a_val := val) hC (by omega) htd (fun x1' dm' val' sn' e1 e2 e3 => ih (c + 1) (by omega) x1' dm' val' sn' (fd_Ps_s hw (by omega) hPs e1 e2 e3) q (by omega)) n 0 (by omega) sn (fun v hv => absurd hv (by omega)) _ (by omega)
theorem fd_yc230 (hn : n ≤ 8) (hv : f_vars = nI n) (h : ∀ dm, (∀ v, n ≤ v → dm v = a_dom v) → (∀ v, v < n → dm v = 0) → post 1 (f_maxVariables, f_maxConstraints, f_maxDepth, f_vars, f_cons, f_level, f_failed, f_termCount, f_cellCount, f_goalCount, f_mode, f_found, f_exhausted, f_current, a_made, dm, a_order, a_dir, a_terms, a_cells, a_goal, a_words, a_savedDom, a_savedCons, a_decision, a_val, a_seen)) :
    ∀ k i, i + k = n → ∀ dm, (∀ v, n ≤ v → dm v = a_dom v) → (∀ v, v < i → dm v = 0) → ∀ q, k < q → wY_close_230 post f_maxVariables f_maxConstraints f_maxDepth f_vars f_cons f_level f_failed f_termCount f_cellCount f_goalCount f_mode f_found f_exhausted f_current q (nI i) a_made dm a_order a_dir a_terms a_cells a_goal a_words a_savedDom a_savedCons a_decision a_val a_seen := by
  subst hv
  intro k
  induction k with
  | zero =>
    intro i hi dm h1 h2 q hq
    obtain ⟨q, rfl⟩ : ∃ q', q = q' + 1 := ⟨q - 1, by omega⟩
    exact pk_le n i (fun _ => h dm h1 (fun v hv => h2 v (by omega))) (fun c => absurd c (by omega))
  | succ k ih =>
    intro i hi dm h1 h2 q hq
    obtain ⟨q, rfl⟩ : ∃ q', q = q' + 1 := ⟨q - 1, by omega⟩
    have ei : (nI i).toNatClampNeg = i := pk_cl i
    refine pk_le n i (fun c => absurd c (by omega)) (fun _ => ⟨pk_in i 8 (by omega), ?_⟩)
    rw [ei]
    refine nm_e (nm_r (nI_1 i) (ih (i + 1) (by omega) _ (fun v hv => ?_) (fun v hv => ?_) q (by omega)))
    · rw [pk_un (by omega)]; exact h1 v hv
    · by_cases e : v = i
      · rw [e, pk_us]
      · rw [pk_un e]; exact h2 v (by omega)
theorem fd_yc191 (hn : n ≤ 8) (hv : f_vars = nI n) (h0 : (∀ v, v < n → a_dom v ≠ 0) → post 0 (f_maxVariables, f_maxConstraints, f_maxDepth, f_vars, f_cons, f_level, 0, f_termCount, f_cellCount, f_goalCount, f_mode, f_found, f_exhausted, f_current, a_made, a_dom, a_order, a_dir, a_terms, a_cells, a_goal, a_words, a_savedDom, a_savedCons, a_decision, a_val, a_seen)) (h1 : ∀ dm, (∃ v, v < n ∧ a_dom v = 0) → (∀ v, n ≤ v → dm v = a_dom v) → (∀ v, v < n → dm v = 0) → post 1 (f_maxVariables, f_maxConstraints, f_maxDepth, f_vars, f_cons, f_level, 1, f_termCount, f_cellCount, f_goalCount, f_mode, f_found, f_exhausted, f_current, a_made, dm, a_order, a_dir, a_terms, a_cells, a_goal, a_words, a_savedDom, a_savedCons, a_decision, a_val, a_seen)) :
    ∀ k i, i + k = n → ∀ fl : Int32, ((fl = 0 ∧ ∀ v, v < i → a_dom v ≠ 0) ∨ (fl = 1 ∧ ∃ v, v < i ∧ a_dom v = 0)) → ∀ q, k < q → wY_close_191 post f_maxVariables f_maxConstraints f_maxDepth f_vars f_cons f_level f_termCount f_cellCount f_goalCount f_mode f_found f_exhausted f_current a_made a_dom a_order a_dir a_terms a_cells a_goal a_words a_savedDom a_savedCons a_decision a_val a_seen q (nI i) fl := by
  intro k
  induction k with
  | zero =>
    intro i hi fl hf q hq
    obtain ⟨q, rfl⟩ : ∃ q', q = q' + 1 := ⟨q - 1, by omega⟩
    refine pk_le n i (fun _ => ?_) (fun c => absurd c (by omega)) (hx := hv)
    rcases hf with ⟨e, hf⟩ | ⟨e, v, b1, b2⟩
    · subst e
      exact br_t rfl (h0 (fun v hv => hf v (by omega)))
    · subst e
      exact br_f (by decide) ⟨n + 1, fd_yc230 (f_failed := 1) hn hv (fun dm x y => h1 dm ⟨v, by omega, b2⟩ x y) n 0 (by omega) a_dom (fun _ _ => rfl) (fun v hv => absurd hv (by omega)) _ (by omega)⟩
  | succ k ih =>
    intro i hi fl hf q hq
    obtain ⟨q, rfl⟩ : ∃ q', q = q' + 1 := ⟨q - 1, by omega⟩
    have ei : (nI i).toNatClampNeg = i := pk_cl i
    refine pk_le n i (fun c => absurd c (by omega)) (fun _ => ⟨pk_in i 8 (by omega), ?_⟩) (hx := hv)
    rw [ei]
    by_cases z : a_dom i = 0
    · exact br_t z (nm_r (nI_1 i) (ih (i + 1) (by omega) 1 (Or.inr ⟨rfl, i, by omega, z⟩) q (by omega)))
    · refine br_f z (nm_r (nI_1 i) (ih (i + 1) (by omega) fl ?_ q (by omega)))
      rcases hf with ⟨e, hf⟩ | ⟨e, v, b1, b2⟩
      · refine Or.inl ⟨e, fun v hv => ?_⟩
        by_cases c : v = i
        · rw [c]; exact z
        · exact hf v (by omega)
      · exact Or.inr ⟨e, v, by omega, b2⟩
theorem fd_yc4 {D0 : Nat → Int32} (hC : fd_CY n m G o f_vars f_cons a_order a_words) (hf : f_failed = 0) (ht : fd_tot n D0 ≤ 1024)
    (h : ∀ r fl dm val sn, fd_Out n m G D0 D0 r fl dm → post r (f_maxVariables, f_maxConstraints, f_maxDepth, f_vars, f_cons, f_level, fl, f_termCount, f_cellCount, f_goalCount, f_mode, f_found, f_exhausted, f_current, a_made, dm, a_order, a_dir, a_terms, a_cells, a_goal, a_words, a_savedDom, a_savedCons, a_decision, val, sn)) :
    ∀ k p, p + k = 258 → ∀ x1 dm val sn, fd_Sub n dm D0 → (∀ E, fd_Good n m G E → fd_Sub n E D0 → fd_Sub n E dm) → (∀ v, n ≤ v → dm v = D0 v) → ((x1 = 1 ∧ fd_ns (fun v => fd_pc (dm v)) n + p ≤ 256) ∨ (x1 = 0 ∧ fd_Cld n m G dm)) → ∀ q, k < q → wY_close_4 post q x1 (nI p) f_maxVariables f_maxConstraints f_maxDepth f_vars f_cons f_level f_failed f_termCount f_cellCount f_goalCount f_mode f_found f_exhausted f_current a_made dm a_order a_dir a_terms a_cells a_goal a_words a_savedDom a_savedCons a_decision val sn := by
  have hC' := hC
  obtain ⟨hn, hm, hv, hcs, hp, ho, hw, hD⟩ := hC'
  have fin : ∀ dm val sn, fd_Sub n dm D0 → (∀ E, fd_Good n m G E → fd_Sub n E D0 → fd_Sub n E dm) → (∀ v, n ≤ v → dm v = D0 v) → fd_Cld n m G dm → ∃ q, wY_close_191 post f_maxVariables f_maxConstraints f_maxDepth f_vars f_cons f_level f_termCount f_cellCount f_goalCount f_mode f_found f_exhausted f_current a_made dm a_order a_dir a_terms a_cells a_goal a_words a_savedDom a_savedCons a_decision val sn q 0 f_failed := by
    intro dm val sn g1 g2 g3 g4
    refine ⟨n + 1, ?_⟩
    rw [hf]
    refine fd_yc191 (a_dom := dm) (a_val := val) (a_seen := sn) hn hv (fun hne => ?_) (fun dm' hex x y => ?_) n 0 (by omega) 0 (Or.inl ⟨rfl, fun v hv => absurd hv (by omega)⟩) _ (by omega)
    · exact h 0 0 dm val sn ⟨g3, Or.inl ⟨rfl, rfl, ⟨hne, fun c hc v hs d hd => g4 c hc v (fd_Sc_lt (hw c hc) hs) d hd⟩, g1, g2⟩⟩
    · refine h 1 1 dm' val sn ⟨fun v hv => by rw [x v hv, g3 v hv], Or.inr ⟨rfl, rfl, fun E hE hs => ?_, y⟩⟩
      obtain ⟨v, hv, z⟩ := hex
      obtain ⟨d, hd⟩ := fd_ne0.mp (hE.1 v hv)
      have := g2 E hE hs v hv d hd
      rw [z, b_0] at this
      exact absurd this (by decide)
  intro k
  induction k with
  | zero =>
    intro p hpk x1 dm val sn g1 g2 g3 g4 q hq
    obtain ⟨q, rfl⟩ : ∃ q', q = q' + 1 := ⟨q - 1, by omega⟩
    rcases g4 with ⟨e, g4⟩ | ⟨e, g4⟩
    · omega
    · exact pk_lt 256 p (fun _ => fin dm val sn g1 g2 g3 g4) (fun c => absurd c (by omega))
  | succ k ih =>
    intro p hpk x1 dm val sn g1 g2 g3 g4 q hq
    obtain ⟨q, rfl⟩ : ∃ q', q = q' + 1 := ⟨q - 1, by omega⟩
    rcases g4 with ⟨e, g4⟩ | ⟨e, g4⟩
    · subst e
      refine pk_lt 256 p (fun c => absurd c (by omega)) (fun _ => br_f (by decide) ⟨m + 1, ?_⟩)
      refine fd_yc19 (D1 := dm) hC ht (fun x1' dm' val' sn' hPs => ?_) m 0 (by omega) 0 dm val sn ⟨g1, g2, fd_Sub_rf, g3, Or.inl ⟨rfl, fun _ _ => rfl, fun c hc => absurd hc (by omega)⟩⟩ _ (by omega)
      obtain ⟨p1, p2, p3, p4, p5⟩ := hPs
      refine ih (p + 1) (by omega) x1' dm' val' sn' p1 p2 p4 ?_ q (by omega)
      rcases p5 with ⟨z, _, hcl⟩ | ⟨z, hlt⟩
      · exact Or.inr ⟨z, hcl⟩
      · exact Or.inl ⟨z, by omega⟩
    · subst e
      exact br_c (fun _ => fin dm val sn g1 g2 g3 g4) (fun _ => br_t rfl (fin dm val sn g1 g2 g3 g4))
theorem fd_yclose (hC : fd_CY n m G o f_vars f_cons a_order a_words) (hf : f_failed = 0) (ht : fd_tot n a_dom ≤ 1024)
    (h : ∀ r fl dm val sn, fd_Out n m G a_dom a_dom r fl dm → post r (f_maxVariables, f_maxConstraints, f_maxDepth, f_vars, f_cons, f_level, fl, f_termCount, f_cellCount, f_goalCount, f_mode, f_found, f_exhausted, f_current, a_made, dm, a_order, a_dir, a_terms, a_cells, a_goal, a_words, a_savedDom, a_savedCons, a_decision, val, sn)) : wpY_close post (f_maxVariables, f_maxConstraints, f_maxDepth, f_vars, f_cons, f_level, f_failed, f_termCount, f_cellCount, f_goalCount, f_mode, f_found, f_exhausted, f_current, a_made, a_dom, a_order, a_dir, a_terms, a_cells, a_goal, a_words, a_savedDom, a_savedCons, a_decision, a_val, a_seen) := by
  refine ⟨259, fd_yc4 (D0 := a_dom) hC hf ht h 258 0 rfl 1 a_dom a_val a_seen fd_Sub_rf (fun _ _ z => z) (fun _ _ => rfl) (Or.inl ⟨rfl, ?_⟩) 259 (by omega)⟩
  have a := fd_ns_bd (f := fun v => fd_pc (a_dom v)) (n := n) (B := 32) (fun v _ => fd_pc_le (a_dom v))
  have b := hC.1
  omega
end
end
section
/-! ===== the relation ===== -/
def fd_or (a_order : Nat → Int32) : Nat → Nat := fun p => (a_order p).toNatClampNeg
def fd_GV (n : Nat) (f_space : Int32) (a_order a_direction a_made : Nat → Int32) : Prop :=
  fd_Perm n (fd_or a_order) ∧ (∀ p, p < n → a_order p = nI (fd_or a_order p)) ∧ (∀ v, v < n → a_direction v = 0 ∨ a_direction v = 1) ∧ f_space = nI (fd_tot n a_made) ∧ fd_tot n a_made ≤ 1024
def fd_GT (n tn : Nat) (a_termA a_termV a_terms : Nat → Int32) : Prop :=
  tn ≤ 8 ∧ (∀ j, j < tn → a_termV j = nI (a_termV j).toNatClampNeg ∧ (a_termV j).toNatClampNeg < n ∧ -8 ≤ (a_termA j).toInt ∧ (a_termA j).toInt ≤ 8 ∧ a_terms (2 * j) = a_termA j ∧ a_terms (2 * j + 1) = a_termV j) ∧
  (∀ i j, i < tn → j < tn → (a_termV i).toNatClampNeg = (a_termV j).toNatClampNeg → i = j)
def fd_GC (cn : Nat) (a_cellX : Nat → Int32) : Prop := cn ≤ 16 ∧ ∀ j, j < cn → 0 ≤ (a_cellX j).toInt ∧ (a_cellX j).toInt ≤ 31
def fd_GK (n m : Nat) (G : fd_FC) (a_words a_watch : Nat → Int32) : Prop := (∀ c, c < m → fd_WF n G c) ∧ (∀ c, c < m → fd_WD G a_words c) ∧ fd_Wt n m G a_watch
def fd_GD (n m : Nat) (G : fd_FC) (f_failed : Int32) (a_dom a_made : Nat → Int32) : Prop :=
  (f_failed = 0 ∧ fd_Good n m G a_dom ∧ fd_Sub n a_dom a_made) ∨ (f_failed = 1 ∧ ∀ v, v < n → a_dom v = 0)
def fd_GL (n m lv : Nat) (G : fd_FC) (a_made a_savedDom a_savedConstraints a_decidedVariable a_decidedValue a_decision : Nat → Int32) : Prop :=
  (∀ l, l < lv → a_savedConstraints l = nI (a_savedConstraints l).toNatClampNeg ∧ (a_savedConstraints l).toNatClampNeg ≤ m ∧ fd_Good n (a_savedConstraints l).toNatClampNeg G (fun v => a_savedDom (8 * l + v)) ∧ fd_Sub n (fun v => a_savedDom (8 * l + v)) a_made ∧
    ((a_decidedVariable l = -1 ∧ a_decision l = -1) ∨ ∃ v d, v < n ∧ d < 32 ∧ a_decidedVariable l = nI v ∧ a_decidedValue l = nI d ∧ a_decision l = nI (v * 32 + d))) ∧
  (∀ l l', l ≤ l' → l' < lv → (a_savedConstraints l).toNatClampNeg ≤ (a_savedConstraints l').toNatClampNeg)
def fd_GM (n gn : Nat) (G : fd_FC) (f_mode f_failed : Int32) (a_goal : Nat → Int32) : Prop :=
  (f_mode = 0 ∨ f_mode = 1 ∨ f_mode = 2 ∨ f_mode = 3) ∧ (f_mode ≠ 0 → f_failed = 0 ∧ 0 < n) ∧ fd_Tm n G 12 ∧ fd_sz G 12 = gn ∧ fd_Go G a_goal ∧ ((f_mode = 0 ∨ f_mode = 1) → gn = 0)
def fd_GU (n : Nat) (G : fd_FC) (f_mode f_hasCurrent f_objective f_current : Int32) (a_dom a_order a_direction a_current : Nat → Int32) : Prop :=
  (f_hasCurrent = 0 ∧ f_current = -1) ∨ (f_hasCurrent = 1 ∧ f_mode ≠ 0 ∧ ∃ a, fd_In n a_dom a ∧ f_current = nI (fd_nm n a_dom (fd_or a_order) a_direction a) ∧ (∀ v, v < n → a_current v = nI (a v)) ∧ (f_mode ≠ 1 → f_objective.toInt = fd_sum G 12 a))
def fd_GN (n m lv mv mc md : Nat) : Prop := mv ≤ 8 ∧ mc ≤ 12 ∧ md ≤ 8 ∧ n ≤ mv ∧ m ≤ mc ∧ lv ≤ md
def fd_IR (n m lv tn cn gn mv mc md : Nat) (f_space f_failed f_mode f_hasCurrent f_objective : Int32) (a_dom a_watch a_order a_direction a_termA a_termV a_cellX a_kind a_relation a_constant a_first a_second a_size a_number a_scope a_savedDom a_savedConstraints a_decidedVariable a_decidedValue a_current : Nat → Int32) (f_current : Int32) (a_made a_terms a_goal a_words a_decision : Nat → Int32) : Prop :=
  fd_GN n m lv mv mc md ∧ fd_GV n f_space a_order a_direction a_made ∧ fd_GT n tn a_termA a_termV a_terms ∧ fd_GC cn a_cellX ∧ fd_GK n m (a_kind, a_relation, a_constant, a_first, a_second, a_size, a_number, a_scope) a_words a_watch ∧
  fd_GD n m (a_kind, a_relation, a_constant, a_first, a_second, a_size, a_number, a_scope) f_failed a_dom a_made ∧ fd_GL n m lv (a_kind, a_relation, a_constant, a_first, a_second, a_size, a_number, a_scope) a_made a_savedDom a_savedConstraints a_decidedVariable a_decidedValue a_decision ∧
  fd_GM n gn (a_kind, a_relation, a_constant, a_first, a_second, a_size, a_number, a_scope) f_mode f_failed a_goal ∧ fd_GU n (a_kind, a_relation, a_constant, a_first, a_second, a_size, a_number, a_scope) f_mode f_hasCurrent f_objective f_current a_dom a_order a_direction a_current
def fd_RR (f_objectiveSlot f_maxVariables f_maxConstraints f_maxDepth f_variables f_space f_failed f_terms f_cells f_constraints f_level f_mode f_found f_exhausted f_hasCurrent f_objective f_pending : Int32) (f_matched : Int64) (f_depth f_guided f_bounded : Int32) (a_dom a_watch a_order a_direction a_termA a_termV a_cellX a_kind a_relation a_constant a_first a_second a_size a_number a_scope a_savedDom a_savedConstraints a_decidedVariable a_decidedValue a_current a_work a_sums a_grown : Nat → Int32) (a_image : Nat → Int64) (a_mate a_parent a_queue a_reach a_frames a_left : Nat → Int32) (g_maxVariables g_maxConstraints g_maxDepth g_vars g_cons g_level g_failed g_termCount g_cellCount g_goalCount g_mode g_found g_exhausted g_current : Int32) (h_made h_dom h_order h_dir h_terms h_cells h_goal h_words h_savedDom h_savedCons h_decision h_val h_seen : Nat → Int32) : Prop :=
  ∃ n m lv tn cn gn mv mc md : Nat, (f_maxVariables = nI mv ∧ g_maxVariables = nI mv ∧ f_maxConstraints = nI mc ∧ g_maxConstraints = nI mc ∧ f_maxDepth = nI md ∧ g_maxDepth = nI md ∧
    f_variables = nI n ∧ g_vars = nI n ∧ f_constraints = nI m ∧ g_cons = nI m ∧ f_level = nI lv ∧ g_level = nI lv ∧ f_terms = nI tn ∧ g_termCount = nI tn ∧ f_cells = nI cn ∧ g_cellCount = nI cn ∧ g_goalCount = nI gn) ∧
    (g_failed = f_failed ∧ g_mode = f_mode ∧ g_found = f_found ∧ g_exhausted = f_exhausted ∧ h_dom = a_dom ∧ h_order = a_order ∧ h_dir = a_direction ∧ h_cells = a_cellX ∧ h_savedDom = a_savedDom ∧ h_savedCons = a_savedConstraints) ∧
    fd_IR n m lv tn cn gn mv mc md f_space f_failed f_mode f_hasCurrent f_objective a_dom a_watch a_order a_direction a_termA a_termV a_cellX a_kind a_relation a_constant a_first a_second a_size a_number a_scope a_savedDom a_savedConstraints a_decidedVariable a_decidedValue a_current g_current h_made h_terms h_goal h_words h_decision
/-- the relation at the head of a turn whose first cell is k -/
def i_Rel (k : Nat) (u : SX) (v : SY) : Prop :=
  match u with
  | (f_objectiveSlot, f_maxVariables, f_maxConstraints, f_maxDepth, f_variables, f_space, f_failed, f_terms, f_cells, f_constraints, f_level, f_mode, f_found, f_exhausted, f_hasCurrent, f_objective, f_pending, f_matched, f_depth, f_guided, f_bounded, a_dom, a_watch, a_order, a_direction, a_termA, a_termV, a_cellX, a_kind, a_relation, a_constant, a_first, a_second, a_size, a_number, a_scope, a_savedDom, a_savedConstraints, a_decidedVariable, a_decidedValue, a_current, a_work, a_sums, a_grown, a_image, a_mate, a_parent, a_queue, a_reach, a_frames, a_left) =>
    match v with
    | (g_maxVariables, g_maxConstraints, g_maxDepth, g_vars, g_cons, g_level, g_failed, g_termCount, g_cellCount, g_goalCount, g_mode, g_found, g_exhausted, g_current, h_made, h_dom, h_order, h_dir, h_terms, h_cells, h_goal, h_words, h_savedDom, h_savedCons, h_decision, h_val, h_seen) => fd_RR f_objectiveSlot f_maxVariables f_maxConstraints f_maxDepth f_variables f_space f_failed f_terms f_cells f_constraints f_level f_mode f_found f_exhausted f_hasCurrent f_objective f_pending f_matched f_depth f_guided f_bounded a_dom a_watch a_order a_direction a_termA a_termV a_cellX a_kind a_relation a_constant a_first a_second a_size a_number a_scope a_savedDom a_savedConstraints a_decidedVariable a_decidedValue a_current a_work a_sums a_grown a_image a_mate a_parent a_queue a_reach a_frames a_left g_maxVariables g_maxConstraints g_maxDepth g_vars g_cons g_level g_failed g_termCount g_cellCount g_goalCount g_mode g_found g_exhausted g_current h_made h_dom h_order h_dir h_terms h_cells h_goal h_words h_savedDom h_savedCons h_decision h_val h_seen
theorem i_up {k : Nat} {u : SX} {v : SY} (h : i_Rel k u v) : i_Rel (k + 4) u v := h
theorem fd_el0 {P : SX → SY → Prop} {k : Nat} {u : SX} {v : SY} (I : i_Rel k u v) (h : ∀ (f_objectiveSlot f_maxVariables f_maxConstraints f_maxDepth f_variables f_space f_failed f_terms f_cells f_constraints f_level f_mode f_found f_exhausted f_hasCurrent f_objective f_pending : Int32) (f_matched : Int64) (f_depth f_guided f_bounded : Int32) (a_dom a_watch a_order a_direction a_termA a_termV a_cellX a_kind a_relation a_constant a_first a_second a_size a_number a_scope a_savedDom a_savedConstraints a_decidedVariable a_decidedValue a_current a_work a_sums a_grown : Nat → Int32) (a_image : Nat → Int64) (a_mate a_parent a_queue a_reach a_frames a_left : Nat → Int32) (g_maxVariables g_maxConstraints g_maxDepth g_vars g_cons g_level g_failed g_termCount g_cellCount g_goalCount g_mode g_found g_exhausted g_current : Int32) (h_made h_dom h_order h_dir h_terms h_cells h_goal h_words h_savedDom h_savedCons h_decision h_val h_seen : Nat → Int32), fd_RR f_objectiveSlot f_maxVariables f_maxConstraints f_maxDepth f_variables f_space f_failed f_terms f_cells f_constraints f_level f_mode f_found f_exhausted f_hasCurrent f_objective f_pending f_matched f_depth f_guided f_bounded a_dom a_watch a_order a_direction a_termA a_termV a_cellX a_kind a_relation a_constant a_first a_second a_size a_number a_scope a_savedDom a_savedConstraints a_decidedVariable a_decidedValue a_current a_work a_sums a_grown a_image a_mate a_parent a_queue a_reach a_frames a_left g_maxVariables g_maxConstraints g_maxDepth g_vars g_cons g_level g_failed g_termCount g_cellCount g_goalCount g_mode g_found g_exhausted g_current h_made h_dom h_order h_dir h_terms h_cells h_goal h_words h_savedDom h_savedCons h_decision h_val h_seen → P (f_objectiveSlot, f_maxVariables, f_maxConstraints, f_maxDepth, f_variables, f_space, f_failed, f_terms, f_cells, f_constraints, f_level, f_mode, f_found, f_exhausted, f_hasCurrent, f_objective, f_pending, f_matched, f_depth, f_guided, f_bounded, a_dom, a_watch, a_order, a_direction, a_termA, a_termV, a_cellX, a_kind, a_relation, a_constant, a_first, a_second, a_size, a_number, a_scope, a_savedDom, a_savedConstraints, a_decidedVariable, a_decidedValue, a_current, a_work, a_sums, a_grown, a_image, a_mate, a_parent, a_queue, a_reach, a_frames, a_left) (g_maxVariables, g_maxConstraints, g_maxDepth, g_vars, g_cons, g_level, g_failed, g_termCount, g_cellCount, g_goalCount, g_mode, g_found, g_exhausted, g_current, h_made, h_dom, h_order, h_dir, h_terms, h_cells, h_goal, h_words, h_savedDom, h_savedCons, h_decision, h_val, h_seen)) : P u v :=
  h u.1 u.2.1 u.2.2.1 u.2.2.2.1 u.2.2.2.2.1 u.2.2.2.2.2.1 u.2.2.2.2.2.2.1 u.2.2.2.2.2.2.2.1 u.2.2.2.2.2.2.2.2.1 u.2.2.2.2.2.2.2.2.2.1 u.2.2.2.2.2.2.2.2.2.2.1 u.2.2.2.2.2.2.2.2.2.2.2.1 u.2.2.2.2.2.2.2.2.2.2.2.2.1 u.2.2.2.2.2.2.2.2.2.2.2.2.2.1 u.2.2.2.2.2.2.2.2.2.2.2.2.2.2.1 u.2.2.2.2.2.2.2.2.2.2.2.2.2.2.2.1 u.2.2.2.2.2.2.2.2.2.2.2.2.2.2.2.2.1 u.2.2.2.2.2.2.2.2.2.2.2.2.2.2.2.2.2.1 u.2.2.2.2.2.2.2.2.2.2.2.2.2.2.2.2.2.2.1 u.2.2.2.2.2.2.2.2.2.2.2.2.2.2.2.2.2.2.2.1 u.2.2.2.2.2.2.2.2.2.2.2.2.2.2.2.2.2.2.2.2.1 u.2.2.2.2.2.2.2.2.2.2.2.2.2.2.2.2.2.2.2.2.2.1 u.2.2.2.2.2.2.2.2.2.2.2.2.2.2.2.2.2.2.2.2.2.2.1 u.2.2.2.2.2.2.2.2.2.2.2.2.2.2.2.2.2.2.2.2.2.2.2.1 u.2.2.2.2.2.2.2.2.2.2.2.2.2.2.2.2.2.2.2.2.2.2.2.2.1 u.2.2.2.2.2.2.2.2.2.2.2.2.2.2.2.2.2.2.2.2.2.2.2.2.2.1 u.2.2.2.2.2.2.2.2.2.2.2.2.2.2.2.2.2.2.2.2.2.2.2.2.2.2.1 u.2.2.2.2.2.2.2.2.2.2.2.2.2.2.2.2.2.2.2.2.2.2.2.2.2.2.2.1 u.2.2.2.2.2.2.2.2.2.2.2.2.2.2.2.2.2.2.2.2.2.2.2.2.2.2.2.2.1 u.2.2.2.2.2.2.2.2.2.2.2.2.2.2.2.2.2.2.2.2.2.2.2.2.2.2.2.2.2.1 u.2.2.2.2.2.2.2.2.2.2.2.2.2.2.2.2.2.2.2.2.2.2.2.2.2.2.2.2.2.2.1 u.2.2.2.2.2.2.2.2.2.2.2.2.2.2.2.2.2.2.2.2.2.2.2.2.2.2.2.2.2.2.2.1 u.2.2.2.2.2.2.2.2.2.2.2.2.2.2.2.2.2.2.2.2.2.2.2.2.2.2.2.2.2.2.2.2.1 u.2.2.2.2.2.2.2.2.2.2.2.2.2.2.2.2.2.2.2.2.2.2.2.2.2.2.2.2.2.2.2.2.2.1 u.2.2.2.2.2.2.2.2.2.2.2.2.2.2.2.2.2.2.2.2.2.2.2.2.2.2.2.2.2.2.2.2.2.2.1 u.2.2.2.2.2.2.2.2.2.2.2.2.2.2.2.2.2.2.2.2.2.2.2.2.2.2.2.2.2.2.2.2.2.2.2.1 u.2.2.2.2.2.2.2.2.2.2.2.2.2.2.2.2.2.2.2.2.2.2.2.2.2.2.2.2.2.2.2.2.2.2.2.2.1 u.2.2.2.2.2.2.2.2.2.2.2.2.2.2.2.2.2.2.2.2.2.2.2.2.2.2.2.2.2.2.2.2.2.2.2.2.2.1 u.2.2.2.2.2.2.2.2.2.2.2.2.2.2.2.2.2.2.2.2.2.2.2.2.2.2.2.2.2.2.2.2.2.2.2.2.2.2.1 u.2.2.2.2.2.2.2.2.2.2.2.2.2.2.2.2.2.2.2.2.2.2.2.2.2.2.2.2.2.2.2.2.2.2.2.2.2.2.2.1 u.2.2.2.2.2.2.2.2.2.2.2.2.2.2.2.2.2.2.2.2.2.2.2.2.2.2.2.2.2.2.2.2.2.2.2.2.2.2.2.2.1 u.2.2.2.2.2.2.2.2.2.2.2.2.2.2.2.2.2.2.2.2.2.2.2.2.2.2.2.2.2.2.2.2.2.2.2.2.2.2.2.2.2.1 u.2.2.2.2.2.2.2.2.2.2.2.2.2.2.2.2.2.2.2.2.2.2.2.2.2.2.2.2.2.2.2.2.2.2.2.2.2.2.2.2.2.2.1 u.2.2.2.2.2.2.2.2.2.2.2.2.2.2.2.2.2.2.2.2.2.2.2.2.2.2.2.2.2.2.2.2.2.2.2.2.2.2.2.2.2.2.2.1 u.2.2.2.2.2.2.2.2.2.2.2.2.2.2.2.2.2.2.2.2.2.2.2.2.2.2.2.2.2.2.2.2.2.2.2.2.2.2.2.2.2.2.2.2.1 u.2.2.2.2.2.2.2.2.2.2.2.2.2.2.2.2.2.2.2.2.2.2.2.2.2.2.2.2.2.2.2.2.2.2.2.2.2.2.2.2.2.2.2.2.2.1 u.2.2.2.2.2.2.2.2.2.2.2.2.2.2.2.2.2.2.2.2.2.2.2.2.2.2.2.2.2.2.2.2.2.2.2.2.2.2.2.2.2.2.2.2.2.2.1 u.2.2.2.2.2.2.2.2.2.2.2.2.2.2.2.2.2.2.2.2.2.2.2.2.2.2.2.2.2.2.2.2.2.2.2.2.2.2.2.2.2.2.2.2.2.2.2.1 u.2.2.2.2.2.2.2.2.2.2.2.2.2.2.2.2.2.2.2.2.2.2.2.2.2.2.2.2.2.2.2.2.2.2.2.2.2.2.2.2.2.2.2.2.2.2.2.2.1 u.2.2.2.2.2.2.2.2.2.2.2.2.2.2.2.2.2.2.2.2.2.2.2.2.2.2.2.2.2.2.2.2.2.2.2.2.2.2.2.2.2.2.2.2.2.2.2.2.2.1 u.2.2.2.2.2.2.2.2.2.2.2.2.2.2.2.2.2.2.2.2.2.2.2.2.2.2.2.2.2.2.2.2.2.2.2.2.2.2.2.2.2.2.2.2.2.2.2.2.2.2 v.1 v.2.1 v.2.2.1 v.2.2.2.1 v.2.2.2.2.1 v.2.2.2.2.2.1 v.2.2.2.2.2.2.1 v.2.2.2.2.2.2.2.1 v.2.2.2.2.2.2.2.2.1 v.2.2.2.2.2.2.2.2.2.1 v.2.2.2.2.2.2.2.2.2.2.1 v.2.2.2.2.2.2.2.2.2.2.2.1 v.2.2.2.2.2.2.2.2.2.2.2.2.1 v.2.2.2.2.2.2.2.2.2.2.2.2.2.1 v.2.2.2.2.2.2.2.2.2.2.2.2.2.2.1 v.2.2.2.2.2.2.2.2.2.2.2.2.2.2.2.1 v.2.2.2.2.2.2.2.2.2.2.2.2.2.2.2.2.1 v.2.2.2.2.2.2.2.2.2.2.2.2.2.2.2.2.2.1 v.2.2.2.2.2.2.2.2.2.2.2.2.2.2.2.2.2.2.1 v.2.2.2.2.2.2.2.2.2.2.2.2.2.2.2.2.2.2.2.1 v.2.2.2.2.2.2.2.2.2.2.2.2.2.2.2.2.2.2.2.2.1 v.2.2.2.2.2.2.2.2.2.2.2.2.2.2.2.2.2.2.2.2.2.1 v.2.2.2.2.2.2.2.2.2.2.2.2.2.2.2.2.2.2.2.2.2.2.1 v.2.2.2.2.2.2.2.2.2.2.2.2.2.2.2.2.2.2.2.2.2.2.2.1 v.2.2.2.2.2.2.2.2.2.2.2.2.2.2.2.2.2.2.2.2.2.2.2.2.1 v.2.2.2.2.2.2.2.2.2.2.2.2.2.2.2.2.2.2.2.2.2.2.2.2.2.1 v.2.2.2.2.2.2.2.2.2.2.2.2.2.2.2.2.2.2.2.2.2.2.2.2.2.2 I
theorem fd_el {P : SX → SY → Prop} {k : Nat} {u : SX} {v : SY} (I : i_Rel k u v) (h : ∀ (n m lv tn cn gn mv mc md : Nat) (f_objectiveSlot f_space f_failed f_mode f_found f_exhausted f_hasCurrent f_objective f_pending : Int32) (f_matched : Int64) (f_depth f_guided f_bounded : Int32) (a_dom a_watch a_order a_direction a_termA a_termV a_cellX a_kind a_relation a_constant a_first a_second a_size a_number a_scope a_savedDom a_savedConstraints a_decidedVariable a_decidedValue a_current a_work a_sums a_grown : Nat → Int32) (a_image : Nat → Int64) (a_mate a_parent a_queue a_reach a_frames a_left : Nat → Int32) (f_current : Int32) (a_made a_terms a_goal a_words a_decision a_val a_seen : Nat → Int32), fd_IR n m lv tn cn gn mv mc md f_space f_failed f_mode f_hasCurrent f_objective a_dom a_watch a_order a_direction a_termA a_termV a_cellX a_kind a_relation a_constant a_first a_second a_size a_number a_scope a_savedDom a_savedConstraints a_decidedVariable a_decidedValue a_current f_current a_made a_terms a_goal a_words a_decision → P (f_objectiveSlot, nI mv, nI mc, nI md, nI n, f_space, f_failed, nI tn, nI cn, nI m, nI lv, f_mode, f_found, f_exhausted, f_hasCurrent, f_objective, f_pending, f_matched, f_depth, f_guided, f_bounded, a_dom, a_watch, a_order, a_direction, a_termA, a_termV, a_cellX, a_kind, a_relation, a_constant, a_first, a_second, a_size, a_number, a_scope, a_savedDom, a_savedConstraints, a_decidedVariable, a_decidedValue, a_current, a_work, a_sums, a_grown, a_image, a_mate, a_parent, a_queue, a_reach, a_frames, a_left) (nI mv, nI mc, nI md, nI n, nI m, nI lv, f_failed, nI tn, nI cn, nI gn, f_mode, f_found, f_exhausted, f_current, a_made, a_dom, a_order, a_direction, a_terms, a_cellX, a_goal, a_words, a_savedDom, a_savedConstraints, a_decision, a_val, a_seen)) : P u v := by
  refine fd_el0 I ?_
  intro f_objectiveSlot f_maxVariables f_maxConstraints f_maxDepth f_variables f_space f_failed f_terms f_cells f_constraints f_level f_mode f_found f_exhausted f_hasCurrent f_objective f_pending f_matched f_depth f_guided f_bounded a_dom a_watch a_order a_direction a_termA a_termV a_cellX a_kind a_relation a_constant a_first a_second a_size a_number a_scope a_savedDom a_savedConstraints a_decidedVariable a_decidedValue a_current a_work a_sums a_grown a_image a_mate a_parent a_queue a_reach a_frames a_left g_maxVariables g_maxConstraints g_maxDepth g_vars g_cons g_level g_failed g_termCount g_cellCount g_goalCount g_mode g_found g_exhausted g_current h_made h_dom h_order h_dir h_terms h_cells h_goal h_words h_savedDom h_savedCons h_decision h_val h_seen hR
  obtain ⟨n, m, lv, tn, cn, gn, mv, mc, md, ⟨e1, e2, e3, e4, e5, e6, e7, e8, e9, e10, e11, e12, e13, e14, e15, e16, e17⟩, ⟨d1, d2, d3, d4, d5, d6, d7, d8, d9, d10⟩, hI⟩ := hR
  subst e1 e2 e3 e4 e5 e6 e7 e8 e9 e10 e11 e12 e13 e14 e15 e16 e17 d1 d2 d3 d4 d5 d6 d7 d8 d9 d10
  exact h _ _ _ _ _ _ _ _ _ _ _ _ _ _ _ _ _ _ _ _ _ _ _ _ _ _ _ _ _ _ _ _ _ _ _ _ _ _ _ _ _ _ _ _ _ _ _ _ _ _ _ _ _ _ _ _ _ _ _ _ hI
section
variable {n m lv tn cn gn mv mc md : Nat} {f_objectiveSlot f_space f_failed f_mode f_found f_exhausted f_hasCurrent f_objective f_pending : Int32} {f_matched : Int64} {f_depth f_guided f_bounded : Int32} {a_dom a_watch a_order a_direction a_termA a_termV a_cellX a_kind a_relation a_constant a_first a_second a_size a_number a_scope a_savedDom a_savedConstraints a_decidedVariable a_decidedValue a_current a_work a_sums a_grown : Nat → Int32} {a_image : Nat → Int64} {a_mate a_parent a_queue a_reach a_frames a_left : Nat → Int32} {f_current : Int32} {a_made a_terms a_goal a_words a_decision a_val a_seen : Nat → Int32}
theorem fd_mk {k : Nat} (h : fd_IR n m lv tn cn gn mv mc md f_space f_failed f_mode f_hasCurrent f_objective a_dom a_watch a_order a_direction a_termA a_termV a_cellX a_kind a_relation a_constant a_first a_second a_size a_number a_scope a_savedDom a_savedConstraints a_decidedVariable a_decidedValue a_current f_current a_made a_terms a_goal a_words a_decision) : i_Rel k (f_objectiveSlot, nI mv, nI mc, nI md, nI n, f_space, f_failed, nI tn, nI cn, nI m, nI lv, f_mode, f_found, f_exhausted, f_hasCurrent, f_objective, f_pending, f_matched, f_depth, f_guided, f_bounded, a_dom, a_watch, a_order, a_direction, a_termA, a_termV, a_cellX, a_kind, a_relation, a_constant, a_first, a_second, a_size, a_number, a_scope, a_savedDom, a_savedConstraints, a_decidedVariable, a_decidedValue, a_current, a_work, a_sums, a_grown, a_image, a_mate, a_parent, a_queue, a_reach, a_frames, a_left) (nI mv, nI mc, nI md, nI n, nI m, nI lv, f_failed, nI tn, nI cn, nI gn, f_mode, f_found, f_exhausted, f_current, a_made, a_dom, a_order, a_direction, a_terms, a_cellX, a_goal, a_words, a_savedDom, a_savedConstraints, a_decision, a_val, a_seen) :=
  ⟨n, m, lv, tn, cn, gn, mv, mc, md, ⟨rfl, rfl, rfl, rfl, rfl, rfl, rfl, rfl, rfl, rfl, rfl, rfl, rfl, rfl, rfl, rfl, rfl⟩, ⟨rfl, rfl, rfl, rfl, rfl, rfl, rfl, rfl, rfl, rfl⟩, h⟩
end
end
section
/-! ===== init, newVariable, term, cell, discard, domain ===== -/
def fd_cl (p lo hi : Int32) : Int32 := if lo ≤ p then (if p ≤ hi then p else hi) else lo
theorem fd_cl_n {p : Int32} {lo hi : Nat} (h : lo ≤ hi) (h2 : hi < 2 ^ 31) : ∃ j, j ≤ hi ∧ fd_cl p (nI lo) (nI hi) = nI j := by
  unfold fd_cl
  by_cases c : nI lo ≤ p
  · rw [if_pos c]
    by_cases c2 : p ≤ nI hi
    · rw [if_pos c2]
      refine nI_of2 (nI_toInt h2) ?_ c2
      have e : (nI lo).toInt = (lo : Int) := nI_toInt (by omega)
      rw [Int32.le_iff_toInt_le, e] at c
      intro x
      rw [Int32.lt_iff_toInt_lt] at x
      have : (0 : Int32).toInt = 0 := rfl
      omega
    · rw [if_neg c2]; exact ⟨hi, Nat.le_refl _, rfl⟩
  · rw [if_neg c]; exact ⟨lo, h, rfl⟩
section
variable {f_objectiveSlot f_maxVariables f_maxConstraints f_maxDepth f_variables f_space f_failed f_terms f_cells f_constraints f_level f_mode f_found f_exhausted f_hasCurrent f_objective f_pending : Int32} {f_matched : Int64} {f_depth f_guided f_bounded : Int32} {a_dom a_watch a_order a_direction a_termA a_termV a_cellX a_kind a_relation a_constant a_first a_second a_size a_number a_scope a_savedDom a_savedConstraints a_decidedVariable a_decidedValue a_current a_work a_sums a_grown : Nat → Int32} {a_image : Nat → Int64} {a_mate a_parent a_queue a_reach a_frames a_left : Nat → Int32} {post : Int32 → Prop} {p lo hi : Int32}
theorem fd_xclamp (h : post (fd_cl p lo hi)) : wpX_clamp post (f_objectiveSlot, f_maxVariables, f_maxConstraints, f_maxDepth, f_variables, f_space, f_failed, f_terms, f_cells, f_constraints, f_level, f_mode, f_found, f_exhausted, f_hasCurrent, f_objective, f_pending, f_matched, f_depth, f_guided, f_bounded, a_dom, a_watch, a_order, a_direction, a_termA, a_termV, a_cellX, a_kind, a_relation, a_constant, a_first, a_second, a_size, a_number, a_scope, a_savedDom, a_savedConstraints, a_decidedVariable, a_decidedValue, a_current, a_work, a_sums, a_grown, a_image, a_mate, a_parent, a_queue, a_reach, a_frames, a_left) p lo hi := by
  unfold fd_cl at h
  by_cases c : lo ≤ p
  · rw [if_pos c] at h
    by_cases c2 : p ≤ hi
    · rw [if_pos c2] at h; exact br_t c (br_t c2 h)
    · rw [if_neg c2] at h; exact br_t c (br_f c2 h)
  · rw [if_neg c] at h; exact br_f c h
theorem fd_xisv1 {n v : Nat} (hn : n ≤ 8) (hv : v < n) (h : post 1) : wpX_isVariable post (f_objectiveSlot, f_maxVariables, f_maxConstraints, f_maxDepth, nI n, f_space, f_failed, f_terms, f_cells, f_constraints, f_level, f_mode, f_found, f_exhausted, f_hasCurrent, f_objective, f_pending, f_matched, f_depth, f_guided, f_bounded, a_dom, a_watch, a_order, a_direction, a_termA, a_termV, a_cellX, a_kind, a_relation, a_constant, a_first, a_second, a_size, a_number, a_scope, a_savedDom, a_savedConstraints, a_decidedVariable, a_decidedValue, a_current, a_work, a_sums, a_grown, a_image, a_mate, a_parent, a_queue, a_reach, a_frames, a_left) (nI v) :=
  br_f (nI_pos (by omega)) (br_f (nI_ge hv (by omega)) h)
theorem fd_xisv0 {n : Nat} (hp : p < 0 ∨ nI n ≤ p) (h : post 0) : wpX_isVariable post (f_objectiveSlot, f_maxVariables, f_maxConstraints, f_maxDepth, nI n, f_space, f_failed, f_terms, f_cells, f_constraints, f_level, f_mode, f_found, f_exhausted, f_hasCurrent, f_objective, f_pending, f_matched, f_depth, f_guided, f_bounded, a_dom, a_watch, a_order, a_direction, a_termA, a_termV, a_cellX, a_kind, a_relation, a_constant, a_first, a_second, a_size, a_number, a_scope, a_savedDom, a_savedConstraints, a_decidedVariable, a_decidedValue, a_current, a_work, a_sums, a_grown, a_image, a_mate, a_parent, a_queue, a_reach, a_frames, a_left) p :=
  br_c (fun _ => h) (fun c => br_c (fun _ => h) (fun c2 => absurd hp (by simp [c, c2])))
theorem fd_xisr1 {r : Nat} (hr : r ≤ 3) (h : post 1) : wpX_isRelation post (f_objectiveSlot, f_maxVariables, f_maxConstraints, f_maxDepth, f_variables, f_space, f_failed, f_terms, f_cells, f_constraints, f_level, f_mode, f_found, f_exhausted, f_hasCurrent, f_objective, f_pending, f_matched, f_depth, f_guided, f_bounded, a_dom, a_watch, a_order, a_direction, a_termA, a_termV, a_cellX, a_kind, a_relation, a_constant, a_first, a_second, a_size, a_number, a_scope, a_savedDom, a_savedConstraints, a_decidedVariable, a_decidedValue, a_current, a_work, a_sums, a_grown, a_image, a_mate, a_parent, a_queue, a_reach, a_frames, a_left) (nI r) :=
  br_f (nI_pos (by omega)) (br_f (nI_nlt (a := 3) (b := r) hr (by omega)) h)
theorem fd_xisr0 (hp : p < 0 ∨ 3 < p) (h : post 0) : wpX_isRelation post (f_objectiveSlot, f_maxVariables, f_maxConstraints, f_maxDepth, f_variables, f_space, f_failed, f_terms, f_cells, f_constraints, f_level, f_mode, f_found, f_exhausted, f_hasCurrent, f_objective, f_pending, f_matched, f_depth, f_guided, f_bounded, a_dom, a_watch, a_order, a_direction, a_termA, a_termV, a_cellX, a_kind, a_relation, a_constant, a_first, a_second, a_size, a_number, a_scope, a_savedDom, a_savedConstraints, a_decidedVariable, a_decidedValue, a_current, a_work, a_sums, a_grown, a_image, a_mate, a_parent, a_queue, a_reach, a_frames, a_left) p :=
  br_c (fun _ => h) (fun c => br_c (fun _ => h) (fun c2 => absurd hp (by simp only [c, c2, or_self]; exact id)))
end
section
variable {f_maxVariables f_maxConstraints f_maxDepth f_vars f_cons f_level f_failed f_termCount f_cellCount f_goalCount f_mode f_found f_exhausted f_current : Int32} {a_made a_dom a_order a_dir a_terms a_cells a_goal a_words a_savedDom a_savedCons a_decision a_val a_seen : Nat → Int32} {post : Int32 → Prop} {p lo hi : Int32}
theorem fd_yclamp (h : post (fd_cl p lo hi)) : wpY_clamp post (f_maxVariables, f_maxConstraints, f_maxDepth, f_vars, f_cons, f_level, f_failed, f_termCount, f_cellCount, f_goalCount, f_mode, f_found, f_exhausted, f_current, a_made, a_dom, a_order, a_dir, a_terms, a_cells, a_goal, a_words, a_savedDom, a_savedCons, a_decision, a_val, a_seen) p lo hi := by
  unfold fd_cl at h
  by_cases c : lo ≤ p
  · rw [if_pos c] at h
    by_cases c2 : p ≤ hi
    · rw [if_pos c2] at h; exact br_t c (br_t c2 h)
    · rw [if_neg c2] at h; exact br_t c (br_f c2 h)
  · rw [if_neg c] at h; exact br_f c h
theorem fd_yisv1 {n v : Nat} (hn : n ≤ 8) (hv : v < n) (h : post 1) : wpY_isVariable post (f_maxVariables, f_maxConstraints, f_maxDepth, nI n, f_cons, f_level, f_failed, f_termCount, f_cellCount, f_goalCount, f_mode, f_found, f_exhausted, f_current, a_made, a_dom, a_order, a_dir, a_terms, a_cells, a_goal, a_words, a_savedDom, a_savedCons, a_decision, a_val, a_seen) (nI v) :=
  br_f (nI_pos (by omega)) (br_f (nI_ge hv (by omega)) h)
theorem fd_yisv0 {n : Nat} (hp : p < 0 ∨ nI n ≤ p) (h : post 0) : wpY_isVariable post (f_maxVariables, f_maxConstraints, f_maxDepth, nI n, f_cons, f_level, f_failed, f_termCount, f_cellCount, f_goalCount, f_mode, f_found, f_exhausted, f_current, a_made, a_dom, a_order, a_dir, a_terms, a_cells, a_goal, a_words, a_savedDom, a_savedCons, a_decision, a_val, a_seen) p :=
  br_c (fun _ => h) (fun c => br_c (fun _ => h) (fun c2 => absurd hp (by simp [c, c2])))
theorem fd_yg0 (hm : f_mode = 0) (hf : f_failed = 0) (h : post 0) : wpY_gate post (f_maxVariables, f_maxConstraints, f_maxDepth, f_vars, f_cons, f_level, f_failed, f_termCount, f_cellCount, f_goalCount, f_mode, f_found, f_exhausted, f_current, a_made, a_dom, a_order, a_dir, a_terms, a_cells, a_goal, a_words, a_savedDom, a_savedCons, a_decision, a_val, a_seen) := br_t hm (br_t hf h)
theorem fd_yg1 (hm : ¬ f_mode = 0) (h : post (-1)) : wpY_gate post (f_maxVariables, f_maxConstraints, f_maxDepth, f_vars, f_cons, f_level, f_failed, f_termCount, f_cellCount, f_goalCount, f_mode, f_found, f_exhausted, f_current, a_made, a_dom, a_order, a_dir, a_terms, a_cells, a_goal, a_words, a_savedDom, a_savedCons, a_decision, a_val, a_seen) := br_f hm h
theorem fd_yg2 (hm : f_mode = 0) (hf : ¬ f_failed = 0) (h : post (-2)) : wpY_gate post (f_maxVariables, f_maxConstraints, f_maxDepth, f_vars, f_cons, f_level, f_failed, f_termCount, f_cellCount, f_goalCount, f_mode, f_found, f_exhausted, f_current, a_made, a_dom, a_order, a_dir, a_terms, a_cells, a_goal, a_words, a_savedDom, a_savedCons, a_decision, a_val, a_seen) := br_t hm (br_f hf h)
end
section
variable {f_maxVariables f_maxConstraints f_maxDepth f_vars f_cons f_level f_failed f_termCount f_cellCount f_goalCount f_mode f_found f_exhausted f_current : Int32} {a_made a_dom a_order a_dir a_terms a_cells a_goal a_words a_savedDom a_savedCons a_decision a_val a_seen : Nat → Int32} {post : Int32 → SY → Prop} {p0 p1 p2 : Int32}
theorem fd_yb_newVariable (hm : ¬ f_mode = 0) (h : post (-1) (f_maxVariables, f_maxConstraints, f_maxDepth, f_vars, f_cons, f_level, f_failed, f_termCount, f_cellCount, f_goalCount, f_mode, f_found, f_exhausted, f_current, a_made, a_dom, a_order, a_dir, a_terms, a_cells, a_goal, a_words, a_savedDom, a_savedCons, a_decision, a_val, a_seen)) : wpY_newVariable post (f_maxVariables, f_maxConstraints, f_maxDepth, f_vars, f_cons, f_level, f_failed, f_termCount, f_cellCount, f_goalCount, f_mode, f_found, f_exhausted, f_current, a_made, a_dom, a_order, a_dir, a_terms, a_cells, a_goal, a_words, a_savedDom, a_savedCons, a_decision, a_val, a_seen) p0 := by
  unfold wpY_newVariable
  exact fd_yg1 hm (br_f (by decide) (fd_yg1 hm h))
theorem fd_yf_newVariable (hm : f_mode = 0) (hf : ¬ f_failed = 0) (h : post (-2) (f_maxVariables, f_maxConstraints, f_maxDepth, f_vars, f_cons, f_level, f_failed, f_termCount, f_cellCount, f_goalCount, f_mode, f_found, f_exhausted, f_current, a_made, a_dom, a_order, a_dir, a_terms, a_cells, a_goal, a_words, a_savedDom, a_savedCons, a_decision, a_val, a_seen)) : wpY_newVariable post (f_maxVariables, f_maxConstraints, f_maxDepth, f_vars, f_cons, f_level, f_failed, f_termCount, f_cellCount, f_goalCount, f_mode, f_found, f_exhausted, f_current, a_made, a_dom, a_order, a_dir, a_terms, a_cells, a_goal, a_words, a_savedDom, a_savedCons, a_decision, a_val, a_seen) p0 := by
  unfold wpY_newVariable
  exact fd_yg2 hm hf (br_f (by decide) (fd_yg2 hm hf h))
theorem fd_yb_postLinear (hm : ¬ f_mode = 0) (h : post (-1) (f_maxVariables, f_maxConstraints, f_maxDepth, f_vars, f_cons, f_level, f_failed, f_termCount, f_cellCount, f_goalCount, f_mode, f_found, f_exhausted, f_current, a_made, a_dom, a_order, a_dir, a_terms, a_cells, a_goal, a_words, a_savedDom, a_savedCons, a_decision, a_val, a_seen)) : wpY_postLinear post (f_maxVariables, f_maxConstraints, f_maxDepth, f_vars, f_cons, f_level, f_failed, f_termCount, f_cellCount, f_goalCount, f_mode, f_found, f_exhausted, f_current, a_made, a_dom, a_order, a_dir, a_terms, a_cells, a_goal, a_words, a_savedDom, a_savedCons, a_decision, a_val, a_seen) p0 p1 := by
  unfold wpY_postLinear
  exact fd_yg1 hm (br_f (by decide) (fd_yg1 hm h))
theorem fd_yf_postLinear (hm : f_mode = 0) (hf : ¬ f_failed = 0) (h : post (-2) (f_maxVariables, f_maxConstraints, f_maxDepth, f_vars, f_cons, f_level, f_failed, f_termCount, f_cellCount, f_goalCount, f_mode, f_found, f_exhausted, f_current, a_made, a_dom, a_order, a_dir, a_terms, a_cells, a_goal, a_words, a_savedDom, a_savedCons, a_decision, a_val, a_seen)) : wpY_postLinear post (f_maxVariables, f_maxConstraints, f_maxDepth, f_vars, f_cons, f_level, f_failed, f_termCount, f_cellCount, f_goalCount, f_mode, f_found, f_exhausted, f_current, a_made, a_dom, a_order, a_dir, a_terms, a_cells, a_goal, a_words, a_savedDom, a_savedCons, a_decision, a_val, a_seen) p0 p1 := by
  unfold wpY_postLinear
  exact fd_yg2 hm hf (br_f (by decide) (fd_yg2 hm hf h))
theorem fd_yb_postReified (hm : ¬ f_mode = 0) (h : post (-1) (f_maxVariables, f_maxConstraints, f_maxDepth, f_vars, f_cons, f_level, f_failed, f_termCount, f_cellCount, f_goalCount, f_mode, f_found, f_exhausted, f_current, a_made, a_dom, a_order, a_dir, a_terms, a_cells, a_goal, a_words, a_savedDom, a_savedCons, a_decision, a_val, a_seen)) : wpY_postReified post (f_maxVariables, f_maxConstraints, f_maxDepth, f_vars, f_cons, f_level, f_failed, f_termCount, f_cellCount, f_goalCount, f_mode, f_found, f_exhausted, f_current, a_made, a_dom, a_order, a_dir, a_terms, a_cells, a_goal, a_words, a_savedDom, a_savedCons, a_decision, a_val, a_seen) p0 p1 p2 := by
  unfold wpY_postReified
  exact fd_yg1 hm (br_f (by decide) (fd_yg1 hm h))
theorem fd_yf_postReified (hm : f_mode = 0) (hf : ¬ f_failed = 0) (h : post (-2) (f_maxVariables, f_maxConstraints, f_maxDepth, f_vars, f_cons, f_level, f_failed, f_termCount, f_cellCount, f_goalCount, f_mode, f_found, f_exhausted, f_current, a_made, a_dom, a_order, a_dir, a_terms, a_cells, a_goal, a_words, a_savedDom, a_savedCons, a_decision, a_val, a_seen)) : wpY_postReified post (f_maxVariables, f_maxConstraints, f_maxDepth, f_vars, f_cons, f_level, f_failed, f_termCount, f_cellCount, f_goalCount, f_mode, f_found, f_exhausted, f_current, a_made, a_dom, a_order, a_dir, a_terms, a_cells, a_goal, a_words, a_savedDom, a_savedCons, a_decision, a_val, a_seen) p0 p1 p2 := by
  unfold wpY_postReified
  exact fd_yg2 hm hf (br_f (by decide) (fd_yg2 hm hf h))
theorem fd_yb_postAllDifferent (hm : ¬ f_mode = 0) (h : post (-1) (f_maxVariables, f_maxConstraints, f_maxDepth, f_vars, f_cons, f_level, f_failed, f_termCount, f_cellCount, f_goalCount, f_mode, f_found, f_exhausted, f_current, a_made, a_dom, a_order, a_dir, a_terms, a_cells, a_goal, a_words, a_savedDom, a_savedCons, a_decision, a_val, a_seen)) : wpY_postAllDifferent post (f_maxVariables, f_maxConstraints, f_maxDepth, f_vars, f_cons, f_level, f_failed, f_termCount, f_cellCount, f_goalCount, f_mode, f_found, f_exhausted, f_current, a_made, a_dom, a_order, a_dir, a_terms, a_cells, a_goal, a_words, a_savedDom, a_savedCons, a_decision, a_val, a_seen)  := by
  unfold wpY_postAllDifferent
  exact fd_yg1 hm (br_f (by decide) (fd_yg1 hm h))
theorem fd_yf_postAllDifferent (hm : f_mode = 0) (hf : ¬ f_failed = 0) (h : post (-2) (f_maxVariables, f_maxConstraints, f_maxDepth, f_vars, f_cons, f_level, f_failed, f_termCount, f_cellCount, f_goalCount, f_mode, f_found, f_exhausted, f_current, a_made, a_dom, a_order, a_dir, a_terms, a_cells, a_goal, a_words, a_savedDom, a_savedCons, a_decision, a_val, a_seen)) : wpY_postAllDifferent post (f_maxVariables, f_maxConstraints, f_maxDepth, f_vars, f_cons, f_level, f_failed, f_termCount, f_cellCount, f_goalCount, f_mode, f_found, f_exhausted, f_current, a_made, a_dom, a_order, a_dir, a_terms, a_cells, a_goal, a_words, a_savedDom, a_savedCons, a_decision, a_val, a_seen)  := by
  unfold wpY_postAllDifferent
  exact fd_yg2 hm hf (br_f (by decide) (fd_yg2 hm hf h))
theorem fd_yb_postElement (hm : ¬ f_mode = 0) (h : post (-1) (f_maxVariables, f_maxConstraints, f_maxDepth, f_vars, f_cons, f_level, f_failed, f_termCount, f_cellCount, f_goalCount, f_mode, f_found, f_exhausted, f_current, a_made, a_dom, a_order, a_dir, a_terms, a_cells, a_goal, a_words, a_savedDom, a_savedCons, a_decision, a_val, a_seen)) : wpY_postElement post (f_maxVariables, f_maxConstraints, f_maxDepth, f_vars, f_cons, f_level, f_failed, f_termCount, f_cellCount, f_goalCount, f_mode, f_found, f_exhausted, f_current, a_made, a_dom, a_order, a_dir, a_terms, a_cells, a_goal, a_words, a_savedDom, a_savedCons, a_decision, a_val, a_seen) p0 p1 := by
  unfold wpY_postElement
  exact fd_yg1 hm (br_f (by decide) (fd_yg1 hm h))
theorem fd_yf_postElement (hm : f_mode = 0) (hf : ¬ f_failed = 0) (h : post (-2) (f_maxVariables, f_maxConstraints, f_maxDepth, f_vars, f_cons, f_level, f_failed, f_termCount, f_cellCount, f_goalCount, f_mode, f_found, f_exhausted, f_current, a_made, a_dom, a_order, a_dir, a_terms, a_cells, a_goal, a_words, a_savedDom, a_savedCons, a_decision, a_val, a_seen)) : wpY_postElement post (f_maxVariables, f_maxConstraints, f_maxDepth, f_vars, f_cons, f_level, f_failed, f_termCount, f_cellCount, f_goalCount, f_mode, f_found, f_exhausted, f_current, a_made, a_dom, a_order, a_dir, a_terms, a_cells, a_goal, a_words, a_savedDom, a_savedCons, a_decision, a_val, a_seen) p0 p1 := by
  unfold wpY_postElement
  exact fd_yg2 hm hf (br_f (by decide) (fd_yg2 hm hf h))
theorem fd_yb_tell (hm : ¬ f_mode = 0) (h : post (-1) (f_maxVariables, f_maxConstraints, f_maxDepth, f_vars, f_cons, f_level, f_failed, f_termCount, f_cellCount, f_goalCount, f_mode, f_found, f_exhausted, f_current, a_made, a_dom, a_order, a_dir, a_terms, a_cells, a_goal, a_words, a_savedDom, a_savedCons, a_decision, a_val, a_seen)) : wpY_tell post (f_maxVariables, f_maxConstraints, f_maxDepth, f_vars, f_cons, f_level, f_failed, f_termCount, f_cellCount, f_goalCount, f_mode, f_found, f_exhausted, f_current, a_made, a_dom, a_order, a_dir, a_terms, a_cells, a_goal, a_words, a_savedDom, a_savedCons, a_decision, a_val, a_seen) p0 p1 p2 := by
  unfold wpY_tell
  exact fd_yg1 hm (br_f (by decide) (fd_yg1 hm h))
theorem fd_yf_tell (hm : f_mode = 0) (hf : ¬ f_failed = 0) (h : post (-2) (f_maxVariables, f_maxConstraints, f_maxDepth, f_vars, f_cons, f_level, f_failed, f_termCount, f_cellCount, f_goalCount, f_mode, f_found, f_exhausted, f_current, a_made, a_dom, a_order, a_dir, a_terms, a_cells, a_goal, a_words, a_savedDom, a_savedCons, a_decision, a_val, a_seen)) : wpY_tell post (f_maxVariables, f_maxConstraints, f_maxDepth, f_vars, f_cons, f_level, f_failed, f_termCount, f_cellCount, f_goalCount, f_mode, f_found, f_exhausted, f_current, a_made, a_dom, a_order, a_dir, a_terms, a_cells, a_goal, a_words, a_savedDom, a_savedCons, a_decision, a_val, a_seen) p0 p1 p2 := by
  unfold wpY_tell
  exact fd_yg2 hm hf (br_f (by decide) (fd_yg2 hm hf h))
theorem fd_yb_push (hm : ¬ f_mode = 0) (h : post (-1) (f_maxVariables, f_maxConstraints, f_maxDepth, f_vars, f_cons, f_level, f_failed, f_termCount, f_cellCount, f_goalCount, f_mode, f_found, f_exhausted, f_current, a_made, a_dom, a_order, a_dir, a_terms, a_cells, a_goal, a_words, a_savedDom, a_savedCons, a_decision, a_val, a_seen)) : wpY_push post (f_maxVariables, f_maxConstraints, f_maxDepth, f_vars, f_cons, f_level, f_failed, f_termCount, f_cellCount, f_goalCount, f_mode, f_found, f_exhausted, f_current, a_made, a_dom, a_order, a_dir, a_terms, a_cells, a_goal, a_words, a_savedDom, a_savedCons, a_decision, a_val, a_seen)  := by
  unfold wpY_push
  exact fd_yg1 hm (br_f (by decide) (fd_yg1 hm h))
theorem fd_yf_push (hm : f_mode = 0) (hf : ¬ f_failed = 0) (h : post (-2) (f_maxVariables, f_maxConstraints, f_maxDepth, f_vars, f_cons, f_level, f_failed, f_termCount, f_cellCount, f_goalCount, f_mode, f_found, f_exhausted, f_current, a_made, a_dom, a_order, a_dir, a_terms, a_cells, a_goal, a_words, a_savedDom, a_savedCons, a_decision, a_val, a_seen)) : wpY_push post (f_maxVariables, f_maxConstraints, f_maxDepth, f_vars, f_cons, f_level, f_failed, f_termCount, f_cellCount, f_goalCount, f_mode, f_found, f_exhausted, f_current, a_made, a_dom, a_order, a_dir, a_terms, a_cells, a_goal, a_words, a_savedDom, a_savedCons, a_decision, a_val, a_seen)  := by
  unfold wpY_push
  exact fd_yg2 hm hf (br_f (by decide) (fd_yg2 hm hf h))
theorem fd_yb_branch (hm : ¬ f_mode = 0) (h : post (-1) (f_maxVariables, f_maxConstraints, f_maxDepth, f_vars, f_cons, f_level, f_failed, f_termCount, f_cellCount, f_goalCount, f_mode, f_found, f_exhausted, f_current, a_made, a_dom, a_order, a_dir, a_terms, a_cells, a_goal, a_words, a_savedDom, a_savedCons, a_decision, a_val, a_seen)) : wpY_branch post (f_maxVariables, f_maxConstraints, f_maxDepth, f_vars, f_cons, f_level, f_failed, f_termCount, f_cellCount, f_goalCount, f_mode, f_found, f_exhausted, f_current, a_made, a_dom, a_order, a_dir, a_terms, a_cells, a_goal, a_words, a_savedDom, a_savedCons, a_decision, a_val, a_seen)  := by
  unfold wpY_branch
  exact fd_yg1 hm (br_f (by decide) (fd_yg1 hm h))
theorem fd_yf_branch (hm : f_mode = 0) (hf : ¬ f_failed = 0) (h : post (-2) (f_maxVariables, f_maxConstraints, f_maxDepth, f_vars, f_cons, f_level, f_failed, f_termCount, f_cellCount, f_goalCount, f_mode, f_found, f_exhausted, f_current, a_made, a_dom, a_order, a_dir, a_terms, a_cells, a_goal, a_words, a_savedDom, a_savedCons, a_decision, a_val, a_seen)) : wpY_branch post (f_maxVariables, f_maxConstraints, f_maxDepth, f_vars, f_cons, f_level, f_failed, f_termCount, f_cellCount, f_goalCount, f_mode, f_found, f_exhausted, f_current, a_made, a_dom, a_order, a_dir, a_terms, a_cells, a_goal, a_words, a_savedDom, a_savedCons, a_decision, a_val, a_seen)  := by
  unfold wpY_branch
  exact fd_yg2 hm hf (br_f (by decide) (fd_yg2 hm hf h))
end
theorem fd_isv (p : Int32) {n : Nat} (hn : n ≤ 8) : (∃ v, v < n ∧ p = nI v) ∨ (p < 0 ∨ nI n ≤ p) := by
  rcases pk_ix p (n := n) (by omega) with h | h | h
  · exact Or.inr (Or.inl h)
  · exact Or.inr (Or.inr h)
  · exact Or.inl h
theorem fd_isr (p : Int32) : (∃ r, r ≤ 3 ∧ p = nI r) ∨ (p < 0 ∨ 3 < p) := by
  by_cases c : p < 0
  · exact Or.inr (Or.inl c)
  · by_cases c2 : 3 < p
    · exact Or.inr (Or.inr c2)
    · exact Or.inl (nI_of2 (M := 3) (n := 3) rfl c (Int32.not_lt.mp c2))
theorem i_vc0 (k0 : Int32) (k1 : Int32) (k2 : Int32) : wpX_init (fun u => wpY_init (fun v => i_Rel 3 u v) k0 k1 k2) k0 k1 k2 := by
  obtain ⟨mv, h1, e1⟩ := fd_cl_n (p := k0) (lo := 2) (hi := 8) (by omega) (by omega)
  obtain ⟨mc, h2, e2⟩ := fd_cl_n (p := k1) (lo := 1) (hi := 12) (by omega) (by omega)
  obtain ⟨md, h3, e3⟩ := fd_cl_n (p := k2) (lo := 1) (hi := 8) (by omega) (by omega)
  have e1 : fd_cl k0 2 8 = nI mv := e1
  have e2 : fd_cl k1 1 12 = nI mc := e2
  have e3 : fd_cl k2 1 8 = nI md := e3
  refine fd_xclamp (fd_xclamp (fd_xclamp (fd_yclamp (fd_yclamp (fd_yclamp ?_)))))
  rw [e1, e2, e3]
  have z0 : (0 : Int32).toNatClampNeg = 0 := rfl
  refine fd_mk (n := 0) (m := 0) (lv := 0) (tn := 0) (cn := 0) (gn := 0) ⟨⟨h1, h2, h3, by omega, by omega, by omega⟩, ⟨⟨fun p hp => absurd hp (by omega), fun p q hp => absurd hp (by omega)⟩, fun p hp => absurd hp (by omega), fun p hp => absurd hp (by omega), rfl, by show 1 ≤ 1024; omega⟩, ⟨by omega, fun j hj => absurd hj (by omega), fun i j hi => absurd hi (by omega)⟩, ⟨by omega, fun j hj => absurd hj (by omega)⟩, ⟨fun c hc => absurd hc (by omega), fun c hc => absurd hc (by omega), fun v c hc => absurd hc (by omega), fun v i hv => absurd hv (by omega)⟩, Or.inl ⟨rfl, ⟨fun v hv => absurd hv (by omega), fun c hc => absurd hc (by omega)⟩, fun v hv => absurd hv (by omega)⟩, ⟨fun l hl => absurd hl (by omega), fun l l' _ hl => absurd hl (by omega)⟩, ⟨Or.inl rfl, fun z => absurd rfl z, ⟨by show 0 ≤ 8; omega, rfl, fun j hj => absurd hj (by show ¬ j < 0; omega), fun i j hi => absurd hi (by show ¬ i < 0; omega)⟩, rfl, fun j hj => absurd hj (by show ¬ j < 0; omega), fun _ => rfl⟩, Or.inl ⟨rfl, rfl⟩⟩
/-! more variables -/
theorem fd_WF_mono {n n' : Nat} {G : fd_FC} {c : Nat} (hn : n ≤ n') (w : fd_WF n G c) : fd_WF n' G c := by
  have tm : fd_Tm n G c → fd_Tm n' G c := fun ⟨a, b, d, e⟩ => ⟨a, b, fun j hj => ⟨Nat.lt_of_lt_of_le (d j hj).1 hn, (d j hj).2⟩, e⟩
  rcases w with w | w | w | w
  · exact Or.inl ⟨w.1, tm w.2.1, w.2.2⟩
  · exact Or.inr (Or.inl ⟨w.1, tm w.2.1, w.2.2.1, w.2.2.2.1, w.2.2.2.2.1, Nat.lt_of_lt_of_le w.2.2.2.2.2.1 hn, w.2.2.2.2.2.2⟩)
  · exact Or.inr (Or.inr (Or.inl ⟨w.1, tm w.2.1, w.2.2⟩))
  · exact Or.inr (Or.inr (Or.inr ⟨w.1, Nat.lt_of_lt_of_le w.2.1 hn, w.2.2.1, Nat.lt_of_lt_of_le w.2.2.2.1 hn, w.2.2.2.2⟩))
theorem fd_tot_s {n : Nat} {D : Nat → Int32} {x : Int32} : fd_tot (n + 1) (upd D n x) = fd_tot n D * fd_pc x := by
  unfold fd_tot
  rw [fd_pr_s, pk_us, fd_pr_congr (g := fun v => fd_pc (D v)) (fun i hi => by rw [pk_un (by omega)])]
theorem fd_Good_new {n m : Nat} {G : fd_FC} {D : Nat → Int32} {x : Int32} (hw : ∀ c, c < m → fd_WF n G c) (h : fd_Good n m G D) (hx : x ≠ 0) : fd_Good (n + 1) m G (upd D n x) := by
  refine ⟨fun v hv => ?_, fun c hc v hs d hd => ?_⟩
  · by_cases e : v = n
    · rw [e, pk_us]; exact hx
    · rw [pk_un e]; exact h.1 v (by omega)
  · have hv := fd_Sc_lt (hw c hc) hs
    rw [pk_un (by omega)] at hd
    obtain ⟨a, ha, hH, e⟩ := h.2 c hc v hs d hd
    refine ⟨fd_up a n (fd_lo x), fun u hu => ?_, fd_dep (hw c hc) (fun u hu => ?_) hH, ?_⟩
    · by_cases q : u = n
      · rw [q, fd_up_s, pk_us]; exact fd_lo_in hx
      · rw [fd_up_n a q, pk_un q]; exact ha u (by omega)
    · rw [fd_up_n a (by have := fd_Sc_lt (hw c hc) hu; omega)]
    · rw [fd_up_n a (by omega)]; exact e
theorem fd_or_u {a_order : Nat → Int32} {n : Nat} (hn : n < 8) : fd_or (upd a_order n (nI n)) = fd_up (fd_or a_order) n n := by
  funext p
  by_cases e : p = n
  · rw [e, fd_up_s]; unfold fd_or; rw [pk_us]; exact pk_cl n
  · rw [fd_up_n _ e]; unfold fd_or; rw [pk_un e]
theorem i_vc_newVariable {k : Nat} {u : SX} {v : SY} (I : i_Rel k u v) (hk : k + 4 ≤ 2051) (v1 : Int32) : wpX_newVariable (fun r u' => wpY_newVariable (fun r' v' => r' = r ∧ i_Rel (k + 4) u' v') v v1) u v1 := by
  refine fd_el (P := fun u v => wpX_newVariable (fun r u' => wpY_newVariable (fun r' v' => r' = r ∧ i_Rel (k + 4) u' v') v v1) u v1) I ?_
  intro n m lv tn cn gn mv mc md f_objectiveSlot f_space f_failed f_mode f_found f_exhausted f_hasCurrent f_objective f_pending f_matched f_depth f_guided f_bounded a_dom a_watch a_order a_direction a_termA a_termV a_cellX a_kind a_relation a_constant a_first a_second a_size a_number a_scope a_savedDom a_savedConstraints a_decidedVariable a_decidedValue a_current a_work a_sums a_grown a_image a_mate a_parent a_queue a_reach a_frames a_left f_current a_made a_terms a_goal a_words a_decision a_val a_seen hI
  have hI' := hI
  obtain ⟨⟨q1, q2, q3, q4, q5, q6⟩, ⟨v1', v2', v3', v4', v5'⟩, gT, gC, gK, gD, gL, gM, gU⟩ := hI'
  by_cases hm : f_mode = 0
  · by_cases hf : f_failed = 0
    · refine br_t hm (br_t hf (pk_le lv 0 (fun hl => ?_) (fun hl => ?_)))
      rotate_left
      · show wpY_newVariable _ _ _
        unfold wpY_newVariable
        exact fd_yg0 hm hf (br_t rfl (br_f (nI_nle hl (by omega)) ⟨rfl, fd_mk hI⟩))
      have hl0 : lv = 0 := by omega
      by_cases hz : v1 = 0
      · refine br_t hz ?_
        show wpY_newVariable _ _ _
        unfold wpY_newVariable
        exact fd_yg0 hm hf (br_t rfl (br_t (by rw [hl0]; decide) (br_t hz ⟨rfl, fd_mk hI⟩)))
      · refine br_f hz (pk_lt n mv (fun hv => fd_xbits ?_) (fun hv => ?_))
        rotate_left
        · show wpY_newVariable _ _ _
          unfold wpY_newVariable
          exact fd_yg0 hm hf (br_t rfl (br_t (by rw [hl0]; decide) (br_f hz (br_f (nI_nlt hv (by omega)) ⟨rfl, fd_mk hI⟩))))
        have hb := fd_pc_le v1
        have hb2 : fd_tot n a_made * fd_pc v1 ≤ 1024 * 32 := Nat.mul_le_mul v5' hb
        refine nm_r (e' := nI (fd_tot n a_made * fd_pc v1)) (by rw [v4', pk_mul]) ?_
        refine pk_le (fd_tot n a_made * fd_pc v1) 1024 (fun hp => ?_) (fun hp => ?_)
        · have e : (nI n).toNatClampNeg = n := pk_cl n
          rw [e]
          refine ⟨pk_in n 8 (by omega), nm_e ⟨pk_in n 8 (by omega), nm_e ⟨pk_in n 8 (by omega), nm_e ⟨pk_in n 8 (by omega), nm_e (nm_r (nI_1 n) ?_)⟩⟩⟩⟩
          show wpY_newVariable _ _ _
          unfold wpY_newVariable
          refine fd_yg0 hm hf (br_t rfl (br_t (by rw [hl0]; decide) (br_f hz (br_t (nI_lt hv (by omega)) (fd_yspace (n := n) (by omega) rfl (fd_ysize ?_))))))
          refine br_t (by rw [pk_mul]; exact nI_le (b := 1024) hp (by omega)) ?_
          rw [e]
          refine ⟨pk_in n 8 (by omega), nm_e ⟨pk_in n 8 (by omega), nm_e ⟨pk_in n 8 (by omega), nm_e ⟨pk_in n 8 (by omega), nm_e (nm_r (nI_1 n) ⟨nI_pred n, ?_⟩)⟩⟩⟩⟩
          have hD : fd_Good n m (a_kind, a_relation, a_constant, a_first, a_second, a_size, a_number, a_scope) a_dom ∧ fd_Sub n a_dom a_made := by
            rcases gD with ⟨_, a, b⟩ | ⟨a, _⟩
            · exact ⟨a, b⟩
            · rw [hf] at a; exact absurd a (by decide)
          refine fd_mk (n := n + 1) ⟨⟨q1, q2, q3, by omega, q5, q6⟩, ⟨?_, fun p hp => ?_, fun w hw => ?_, ?_, ?_⟩, ⟨gT.1, fun j hj => ⟨(gT.2.1 j hj).1, Nat.lt_succ_of_lt (gT.2.1 j hj).2.1, (gT.2.1 j hj).2.2⟩, gT.2.2⟩, gC, ⟨fun c hc => fd_WF_mono (Nat.le_succ n) (gK.1 c hc), gK.2.1, ⟨fun w c hc hs => ?_, fun w i hw hb => ?_⟩⟩, Or.inl ⟨hf, fd_Good_new gK.1 hD.1 hz, fun w hw d hd => ?_⟩, ⟨fun l hl => absurd hl (by omega), fun l l' _ hl => absurd hl (by omega)⟩, ⟨gM.1, fun x => absurd hm x, ?_, gM.2.2.2⟩, ?_⟩
          · rw [fd_or_u (by omega)]
            refine ⟨fun p hp => ?_, fun p q hp hq e => ?_⟩
            · by_cases c : p = n
              · rw [c, fd_up_s]; omega
              · rw [fd_up_n _ c]; have := v1'.1 p (by omega); omega
            · by_cases c : p = n
              · by_cases c2 : q = n
                · rw [c, c2]
                · rw [c, fd_up_s, fd_up_n _ c2] at e; have := v1'.1 q (by omega); omega
              · by_cases c2 : q = n
                · rw [c2, fd_up_s, fd_up_n _ c] at e; have := v1'.1 p (by omega); omega
                · rw [fd_up_n _ c, fd_up_n _ c2] at e; exact v1'.2 p q (by omega) (by omega) e
          · rw [fd_or_u (by omega)]
            by_cases c : p = n
            · rw [c, fd_up_s, pk_us]
            · rw [fd_up_n _ c, pk_un c]; exact v2' p (by omega)
          · by_cases c : w = n
            · rw [c, pk_us]; exact Or.inl rfl
            · rw [pk_un c]; exact v3' w (by omega)
          · rw [fd_tot_s]
          · rw [fd_tot_s]; exact hp
          · have := fd_Sc_lt (gK.1 c hc) hs
            rw [pk_un (by omega)]; exact gK.2.2.1 w c hc hs
          · by_cases c : w = n
            · rw [c, pk_us, b_0] at hb; exact absurd hb (by decide)
            · rw [pk_un c] at hb; exact gK.2.2.2 w i (by omega) hb
          · by_cases c : w = n
            · rw [c, pk_us] at hd ⊢; exact hd
            · rw [pk_un c] at hd ⊢; exact hD.2 w (by omega) d hd
          · have t := gM.2.2.1
            exact ⟨t.1, t.2.1, fun j hj => ⟨Nat.lt_succ_of_lt (t.2.2.1 j hj).1, (t.2.2.1 j hj).2⟩, t.2.2.2⟩
          · rcases gU with a | ⟨_, a, _⟩
            · exact Or.inl a
            · exact absurd hm a
        · show wpY_newVariable _ _ _
          unfold wpY_newVariable
          refine fd_yg0 hm hf (br_t rfl (br_t (by rw [hl0]; decide) (br_f hz (br_t (nI_lt hv (by omega)) (fd_yspace (n := n) (by omega) rfl (fd_ysize (br_f ?_ ⟨rfl, fd_mk hI⟩)))))))
          rw [pk_mul]; exact nI_ge (a := 1024) hp (by omega)
    · exact br_t hm (br_f hf (fd_yf_newVariable hm hf ⟨rfl, fd_mk hI⟩))
  · exact br_f hm (fd_yb_newVariable hm ⟨rfl, fd_mk hI⟩)
end
section
/-! ===== term, cell, discard, domain, label ===== -/
section
variable {f_objectiveSlot f_maxVariables f_maxConstraints f_maxDepth f_variables f_space f_failed f_terms f_cells f_constraints f_level f_mode f_found f_exhausted f_hasCurrent f_objective f_pending : Int32} {f_matched : Int64} {f_depth f_guided f_bounded : Int32} {a_dom a_watch a_order a_direction a_termA a_termV a_cellX a_kind a_relation a_constant a_first a_second a_size a_number a_scope a_savedDom a_savedConstraints a_decidedVariable a_decidedValue a_current a_work a_sums a_grown : Nat → Int32} {a_image : Nat → Int64} {a_mate a_parent a_queue a_reach a_frames a_left : Nat → Int32} {post : Int32 → Prop} {p : Int32} {tn : Nat}
theorem fd_xinT2 (ht : tn ≤ 8) (h1 : ∀ j, j < tn → a_termV j = p → post 1) (h0 : (∀ j, j < tn → a_termV j ≠ p) → post 0) : ∀ t j, j + t = tn → (∀ i, i < j → a_termV i ≠ p) → ∀ q, t < q → wX_inTerms_2 post p f_objectiveSlot f_maxVariables f_maxConstraints f_maxDepth f_variables f_space f_failed (nI tn) f_cells f_constraints f_level f_mode f_found f_exhausted f_hasCurrent f_objective f_pending f_matched f_depth f_guided f_bounded a_dom a_watch a_order a_direction a_termA a_termV a_cellX a_kind a_relation a_constant a_first a_second a_size a_number a_scope a_savedDom a_savedConstraints a_decidedVariable a_decidedValue a_current a_work a_sums a_grown a_image a_mate a_parent a_queue a_reach a_frames a_left q (nI j) := by
  intro t
  induction t with
  | zero =>
    intro j hj hn q hq
    obtain ⟨q, rfl⟩ : ∃ q', q = q' + 1 := ⟨q - 1, by omega⟩
    exact pk_le tn j (fun _ => h0 (fun i hi => hn i (by omega))) (fun c => absurd c (by omega))
  | succ t ih =>
    intro j hj hn q hq
    obtain ⟨q, rfl⟩ : ∃ q', q = q' + 1 := ⟨q - 1, by omega⟩
    have e : (nI j).toNatClampNeg = j := pk_cl j
    refine pk_le tn j (fun c => absurd c (by omega)) (fun _ => ⟨pk_in j 8 (by omega), ?_⟩)
    rw [e]
    by_cases c : a_termV j = p
    · exact br_t c (h1 j (by omega) c)
    · refine br_f c (nm_r (nI_1 j) (ih (j + 1) (by omega) (fun i hi => ?_) q (by omega)))
      by_cases z : i = j
      · rw [z]; exact c
      · exact hn i (by omega)
theorem fd_xinT (ht : tn ≤ 8) (h1 : ∀ j, j < tn → a_termV j = p → post 1) (h0 : (∀ j, j < tn → a_termV j ≠ p) → post 0) : wpX_inTerms post (f_objectiveSlot, f_maxVariables, f_maxConstraints, f_maxDepth, f_variables, f_space, f_failed, nI tn, f_cells, f_constraints, f_level, f_mode, f_found, f_exhausted, f_hasCurrent, f_objective, f_pending, f_matched, f_depth, f_guided, f_bounded, a_dom, a_watch, a_order, a_direction, a_termA, a_termV, a_cellX, a_kind, a_relation, a_constant, a_first, a_second, a_size, a_number, a_scope, a_savedDom, a_savedConstraints, a_decidedVariable, a_decidedValue, a_current, a_work, a_sums, a_grown, a_image, a_mate, a_parent, a_queue, a_reach, a_frames, a_left) p :=
  ⟨tn + 1, fd_xinT2 ht h1 h0 tn 0 (by omega) (fun i hi => absurd hi (by omega)) _ (by omega)⟩
theorem fd_xzT2 (ht : tn ≤ 8) (h1 : ∀ j, j < tn → a_termA j = 0 → post 1) (h0 : (∀ j, j < tn → a_termA j ≠ 0) → post 0) : ∀ t j, j + t = tn → (∀ i, i < j → a_termA i ≠ 0) → ∀ q, t < q → wX_hasZeroTerm_2 post f_objectiveSlot f_maxVariables f_maxConstraints f_maxDepth f_variables f_space f_failed (nI tn) f_cells f_constraints f_level f_mode f_found f_exhausted f_hasCurrent f_objective f_pending f_matched f_depth f_guided f_bounded a_dom a_watch a_order a_direction a_termA a_termV a_cellX a_kind a_relation a_constant a_first a_second a_size a_number a_scope a_savedDom a_savedConstraints a_decidedVariable a_decidedValue a_current a_work a_sums a_grown a_image a_mate a_parent a_queue a_reach a_frames a_left q (nI j) := by
  intro t
  induction t with
  | zero =>
    intro j hj hn q hq
    obtain ⟨q, rfl⟩ : ∃ q', q = q' + 1 := ⟨q - 1, by omega⟩
    exact pk_le tn j (fun _ => h0 (fun i hi => hn i (by omega))) (fun c => absurd c (by omega))
  | succ t ih =>
    intro j hj hn q hq
    obtain ⟨q, rfl⟩ : ∃ q', q = q' + 1 := ⟨q - 1, by omega⟩
    have e : (nI j).toNatClampNeg = j := pk_cl j
    refine pk_le tn j (fun c => absurd c (by omega)) (fun _ => ⟨pk_in j 8 (by omega), ?_⟩)
    rw [e]
    by_cases c : a_termA j = 0
    · exact br_t c (h1 j (by omega) c)
    · refine br_f c (nm_r (nI_1 j) (ih (j + 1) (by omega) (fun i hi => ?_) q (by omega)))
      by_cases z : i = j
      · rw [z]; exact c
      · exact hn i (by omega)
theorem fd_xzT (ht : tn ≤ 8) (h1 : ∀ j, j < tn → a_termA j = 0 → post 1) (h0 : (∀ j, j < tn → a_termA j ≠ 0) → post 0) : wpX_hasZeroTerm post (f_objectiveSlot, f_maxVariables, f_maxConstraints, f_maxDepth, f_variables, f_space, f_failed, nI tn, f_cells, f_constraints, f_level, f_mode, f_found, f_exhausted, f_hasCurrent, f_objective, f_pending, f_matched, f_depth, f_guided, f_bounded, a_dom, a_watch, a_order, a_direction, a_termA, a_termV, a_cellX, a_kind, a_relation, a_constant, a_first, a_second, a_size, a_number, a_scope, a_savedDom, a_savedConstraints, a_decidedVariable, a_decidedValue, a_current, a_work, a_sums, a_grown, a_image, a_mate, a_parent, a_queue, a_reach, a_frames, a_left) :=
  ⟨tn + 1, fd_xzT2 ht h1 h0 tn 0 (by omega) (fun i hi => absurd hi (by omega)) _ (by omega)⟩
end
section
variable {f_maxVariables f_maxConstraints f_maxDepth f_vars f_cons f_level f_failed f_termCount f_cellCount f_goalCount f_mode f_found f_exhausted f_current : Int32} {a_made a_dom a_order a_dir a_terms a_cells a_goal a_words a_savedDom a_savedCons a_decision a_val a_seen : Nat → Int32} {p : Int32} {tn : Nat}
theorem fd_yzT2 {post : Int32 → Prop} (ht : tn ≤ 8) (h1 : ∀ j, j < tn → a_terms (2 * j) = 0 → post 1) (h0 : (∀ j, j < tn → a_terms (2 * j) ≠ 0) → post 0) : ∀ t j, j + t = tn → (∀ i, i < j → a_terms (2 * i) ≠ 0) → ∀ q, t < q → wY_zeroTerm_2 post f_maxVariables f_maxConstraints f_maxDepth f_vars f_cons f_level f_failed (nI tn) f_cellCount f_goalCount f_mode f_found f_exhausted f_current a_made a_dom a_order a_dir a_terms a_cells a_goal a_words a_savedDom a_savedCons a_decision a_val a_seen q (nI j) := by
  intro t
  induction t with
  | zero =>
    intro j hj hn q hq
    obtain ⟨q, rfl⟩ : ∃ q', q = q' + 1 := ⟨q - 1, by omega⟩
    exact pk_le tn j (fun _ => h0 (fun i hi => hn i (by omega))) (fun c => absurd c (by omega))
  | succ t ih =>
    intro j hj hn q hq
    obtain ⟨q, rfl⟩ : ∃ q', q = q' + 1 := ⟨q - 1, by omega⟩
    have i1 : 2 * nI j = nI (2 * j) := pk_mul 2 j
    have e : (nI (2 * j)).toNatClampNeg = 2 * j := pk_cl _
    refine pk_le tn j (fun c => absurd c (by omega)) (fun _ => ?_)
    rw [i1, e]
    refine ⟨pk_in (2 * j) 16 (by omega), ?_⟩
    by_cases c : a_terms (2 * j) = 0
    · exact br_t c (h1 j (by omega) c)
    · refine br_f c (nm_r (nI_1 j) (ih (j + 1) (by omega) (fun i hi => ?_) q (by omega)))
      by_cases z : i = j
      · rw [z]; exact c
      · exact hn i (by omega)
theorem fd_yzT {post : Int32 → Prop} (ht : tn ≤ 8) (h1 : ∀ j, j < tn → a_terms (2 * j) = 0 → post 1) (h0 : (∀ j, j < tn → a_terms (2 * j) ≠ 0) → post 0) : wpY_zeroTerm post (f_maxVariables, f_maxConstraints, f_maxDepth, f_vars, f_cons, f_level, f_failed, nI tn, f_cellCount, f_goalCount, f_mode, f_found, f_exhausted, f_current, a_made, a_dom, a_order, a_dir, a_terms, a_cells, a_goal, a_words, a_savedDom, a_savedCons, a_decision, a_val, a_seen) :=
  ⟨tn + 1, fd_yzT2 ht h1 h0 tn 0 (by omega) (fun i hi => absurd hi (by omega)) _ (by omega)⟩
theorem fd_yterm25 {post : Int32 → SY → Prop} {A : Int32} (ht : tn < 8 ∨ ∃ j, j < tn ∧ a_terms (2 * j + 1) = p) (ht8 : tn ≤ 8) (h1 : (∃ j, j < tn ∧ a_terms (2 * j + 1) = p) → post (-6) (f_maxVariables, f_maxConstraints, f_maxDepth, f_vars, f_cons, f_level, f_failed, nI tn, f_cellCount, f_goalCount, f_mode, f_found, f_exhausted, f_current, a_made, a_dom, a_order, a_dir, a_terms, a_cells, a_goal, a_words, a_savedDom, a_savedCons, a_decision, a_val, a_seen)) (h0 : (∀ j, j < tn → a_terms (2 * j + 1) ≠ p) → post 0 (f_maxVariables, f_maxConstraints, f_maxDepth, f_vars, f_cons, f_level, f_failed, nI (tn + 1), f_cellCount, f_goalCount, f_mode, f_found, f_exhausted, f_current, a_made, a_dom, a_order, a_dir, upd (upd a_terms (2 * tn) A) (2 * tn + 1) p, a_cells, a_goal, a_words, a_savedDom, a_savedCons, a_decision, a_val, a_seen)) :
    ∀ t j, j + t = tn → (∀ i, i < j → a_terms (2 * i + 1) ≠ p) → ∀ q, t < q → wY_term_25 post A p f_maxVariables f_maxConstraints f_maxDepth f_vars f_cons f_level f_failed (nI tn) f_cellCount f_goalCount f_mode f_found f_exhausted f_current a_made a_dom a_order a_dir a_terms a_cells a_goal a_words a_savedDom a_savedCons a_decision a_val a_seen q (nI j) := by
  intro t
  induction t with
  | zero =>
    intro j hj hn q hq
    obtain ⟨q, rfl⟩ : ∃ q', q = q' + 1 := ⟨q - 1, by omega⟩
    have hno : ∀ i, i < tn → a_terms (2 * i + 1) ≠ p := fun i hi => hn i (by omega)
    have h8 : tn < 8 := ht.elim id (fun ⟨i, hi, e⟩ => absurd e (hno i hi))
    have i1 : 2 * nI tn = nI (2 * tn) := pk_mul 2 tn
    have i2 : nI (2 * tn) + 1 = nI (2 * tn + 1) := nI_1 _
    have e : (nI (2 * tn)).toNatClampNeg = 2 * tn := pk_cl _
    have e2 : (nI (2 * tn + 1)).toNatClampNeg = 2 * tn + 1 := pk_cl _
    refine pk_le tn j (fun _ => ?_) (fun c => absurd c (by omega))
    rw [i1, i2, e, e2]
    exact ⟨pk_in (2 * tn) 16 (by omega), nm_e ⟨pk_in (2 * tn + 1) 16 (by omega), nm_e (nm_r (nI_1 tn) (h0 hno))⟩⟩
  | succ t ih =>
    intro j hj hn q hq
    obtain ⟨q, rfl⟩ : ∃ q', q = q' + 1 := ⟨q - 1, by omega⟩
    have i1 : 2 * nI j = nI (2 * j) := pk_mul 2 j
    have i2 : nI (2 * j) + 1 = nI (2 * j + 1) := nI_1 _
    have e2 : (nI (2 * j + 1)).toNatClampNeg = 2 * j + 1 := pk_cl _
    refine pk_le tn j (fun c => absurd c (by omega)) (fun _ => ?_)
    rw [i1, i2, e2]
    refine ⟨pk_in (2 * j + 1) 16 (by omega), ?_⟩
    by_cases c : a_terms (2 * j + 1) = p
    · exact br_t c (h1 ⟨j, by omega, c⟩)
    · refine br_f c (nm_r (nI_1 j) (ih (j + 1) (by omega) (fun i hi => ?_) q (by omega)))
      by_cases z : i = j
      · rw [z]; exact c
      · exact hn i (by omega)
end
theorem i_vc_term {k : Nat} {u : SX} {v : SY} (I : i_Rel k u v) (hk : k + 4 ≤ 2051) (v1 : Int32) (v2 : Int32) : wpX_term (fun r u' => wpY_term (fun r' v' => r' = r ∧ i_Rel (k + 4) u' v') v v1 v2) u v1 v2 := by
  refine fd_el (P := fun u v => wpX_term (fun r u' => wpY_term (fun r' v' => r' = r ∧ i_Rel (k + 4) u' v') v v1 v2) u v1 v2) I ?_
  intro n m lv tn cn gn mv mc md f_objectiveSlot f_space f_failed f_mode f_found f_exhausted f_hasCurrent f_objective f_pending f_matched f_depth f_guided f_bounded a_dom a_watch a_order a_direction a_termA a_termV a_cellX a_kind a_relation a_constant a_first a_second a_size a_number a_scope a_savedDom a_savedConstraints a_decidedVariable a_decidedValue a_current a_work a_sums a_grown a_image a_mate a_parent a_queue a_reach a_frames a_left f_current a_made a_terms a_goal a_words a_decision a_val a_seen hI
  have hI' := hI
  obtain ⟨⟨q1, q2, q3, q4, q5, q6⟩, gV, ⟨t1, t2, t3⟩, gC, gK, gD, gL, gM, gU⟩ := hI'
  by_cases c1 : v1 < -8
  · exact br_t c1 (br_t c1 ⟨rfl, fd_mk hI⟩)
  · refine br_f c1 ?_
    by_cases c2 : 8 < v1
    · exact br_t c2 (br_f c1 (br_t c2 ⟨rfl, fd_mk hI⟩))
    · refine br_f c2 ?_
      rcases fd_isv v2 (n := n) (by omega) with ⟨w, hw, e⟩ | hno
      · subst e
        refine fd_xisv1 (n := n) (by omega) hw (br_f (by decide) (fd_xinT t1 (fun j hj e => ?_) (fun hfr => ?_)))
        · refine br_f (by decide) ?_
          refine br_f c1 (br_f c2 (fd_yisv1 (by omega) hw (br_f (by decide) ⟨tn + 1, fd_yterm25 (tn := tn) (Or.inr ⟨j, hj, ?_⟩) t1 (fun _ => ⟨rfl, fd_mk hI⟩) (fun hx => absurd ?_ (hx j hj)) tn 0 (by omega) (fun i hi => absurd hi (by omega)) _ (by omega)⟩)))
          · rw [(t2 j hj).2.2.2.2.2]; exact e
          · rw [(t2 j hj).2.2.2.2.2]; exact e
        · have ew : (nI w).toNatClampNeg = w := pk_cl w
          have hfr' : ∀ j, j < tn → (a_termV j).toNatClampNeg ≠ w := fun j hj e => hfr j hj (by rw [(t2 j hj).1, e])
          have h8 : tn + 1 ≤ n := fd_inj_le (f := fd_up (fun j => (a_termV j).toNatClampNeg) tn w) (fun i hi => by
            by_cases c : i = tn
            · rw [c, fd_up_s]; exact hw
            · rw [fd_up_n _ c]; exact (t2 i (by omega)).2.1) (fun i j hi hj e => by
            by_cases c : i = tn
            · by_cases d : j = tn
              · rw [c, d]
              · rw [c, fd_up_s, fd_up_n _ d] at e; exact absurd e.symm (hfr' j (by omega))
            · by_cases d : j = tn
              · rw [d, fd_up_s, fd_up_n _ c] at e; exact absurd e (hfr' i (by omega))
              · rw [fd_up_n _ c, fd_up_n _ d] at e; exact t3 i j (by omega) (by omega) e)
          have et : (nI tn).toNatClampNeg = tn := pk_cl tn
          refine br_t rfl (br_t (nI_lt (b := 8) (by omega) (by omega)) ?_)
          rw [et]
          refine ⟨pk_in tn 8 (by omega), nm_e ⟨pk_in tn 8 (by omega), nm_e (nm_r (nI_1 tn) ?_)⟩⟩
          refine br_f c1 (br_f c2 (fd_yisv1 (by omega) hw (br_f (by decide) ⟨tn + 1, fd_yterm25 (tn := tn) (Or.inl (by omega)) t1 (fun ⟨j, hj, e⟩ => absurd ?_ (hfr j hj)) (fun _ => ⟨rfl, fd_mk (tn := tn + 1) ⟨⟨q1, q2, q3, q4, q5, q6⟩, gV, ⟨by omega, fun j hj => ?_, fun i j hi hj e => ?_⟩, gC, gK, gD, gL, gM, gU⟩⟩) tn 0 (by omega) (fun i hi => absurd hi (by omega)) _ (by omega)⟩)))
          · rw [← (t2 j hj).2.2.2.2.2]; exact e
          · by_cases c : j = tn
            · rw [c, pk_us, pk_us, ew, pk_us, pk_un (by omega), pk_us]
              rw [Int32.lt_iff_toInt_lt] at c1 c2
              have m8 : (-8 : Int32).toInt = -8 := rfl
              have p8 : (8 : Int32).toInt = 8 := rfl
              exact ⟨rfl, hw, by omega, by omega, rfl, rfl⟩
            · rw [pk_un c, pk_un c, pk_un (by omega), pk_un (by omega), pk_un (by omega), pk_un (by omega)]
              exact t2 j (by omega)
          · by_cases c : i = tn
            · by_cases d : j = tn
              · rw [c, d]
              · rw [c, pk_us, ew, pk_un d] at e; exact absurd e.symm (hfr' j (by omega))
            · by_cases d : j = tn
              · rw [d, pk_us, ew, pk_un c] at e; exact absurd e (hfr' i (by omega))
              · rw [pk_un c, pk_un d] at e; exact t3 i j (by omega) (by omega) e
      · exact fd_xisv0 hno (br_t rfl (br_f c1 (br_f c2 (fd_yisv0 hno (br_t rfl ⟨rfl, fd_mk hI⟩)))))
theorem i_vc_cell {k : Nat} {u : SX} {v : SY} (I : i_Rel k u v) (hk : k + 4 ≤ 2051) (v1 : Int32) : wpX_cell (fun r u' => wpY_cell (fun r' v' => r' = r ∧ i_Rel (k + 4) u' v') v v1) u v1 := by
  refine fd_el (P := fun u v => wpX_cell (fun r u' => wpY_cell (fun r' v' => r' = r ∧ i_Rel (k + 4) u' v') v v1) u v1) I ?_
  intro n m lv tn cn gn mv mc md f_objectiveSlot f_space f_failed f_mode f_found f_exhausted f_hasCurrent f_objective f_pending f_matched f_depth f_guided f_bounded a_dom a_watch a_order a_direction a_termA a_termV a_cellX a_kind a_relation a_constant a_first a_second a_size a_number a_scope a_savedDom a_savedConstraints a_decidedVariable a_decidedValue a_current a_work a_sums a_grown a_image a_mate a_parent a_queue a_reach a_frames a_left f_current a_made a_terms a_goal a_words a_decision a_val a_seen hI
  have hI' := hI
  obtain ⟨gN, gV, gT, ⟨c1, c2⟩, gK, gD, gL, gM, gU⟩ := hI'
  by_cases h1 : v1 < 0
  · exact br_t h1 (br_t h1 ⟨rfl, fd_mk hI⟩)
  · by_cases h2 : v1 ≤ 31
    · refine br_f h1 (br_t h2 (pk_lt cn 16 (fun h3 => ?_) (fun h3 => br_f h1 (br_t h2 (br_f (nI_nlt (b := 16) h3 (by omega)) ⟨rfl, fd_mk hI⟩)))))
      have e : (nI cn).toNatClampNeg = cn := pk_cl cn
      rw [e]
      refine ⟨pk_in cn 16 h3, nm_e (nm_r (nI_1 cn) (br_f h1 (br_t h2 (br_t (nI_lt (b := 16) h3 (by omega)) ?_))))⟩
      rw [e]
      refine ⟨pk_in cn 16 h3, nm_e (nm_r (nI_1 cn) ⟨rfl, fd_mk (cn := cn + 1) ⟨gN, gV, gT, ⟨by omega, fun j hj => ?_⟩, gK, gD, gL, gM, gU⟩⟩)⟩
      by_cases c : j = cn
      · rw [c, pk_us]
        rw [Int32.lt_iff_toInt_lt] at h1
        rw [Int32.le_iff_toInt_le] at h2
        have z : (0 : Int32).toInt = 0 := rfl
        have p : (31 : Int32).toInt = 31 := rfl
        omega
      · rw [pk_un c]; exact c2 j (by omega)
    · exact br_f h1 (br_f h2 (br_f h1 (br_f h2 ⟨rfl, fd_mk hI⟩)))
theorem i_vc_discard {k : Nat} {u : SX} {v : SY} (I : i_Rel k u v) (hk : k + 4 ≤ 2051) : wpX_discard (fun u' => wpY_discard (fun v' => i_Rel (k + 4) u' v') v) u := by
  refine fd_el (P := fun u v => wpX_discard (fun u' => wpY_discard (fun v' => i_Rel (k + 4) u' v') v) u) I ?_
  intro n m lv tn cn gn mv mc md f_objectiveSlot f_space f_failed f_mode f_found f_exhausted f_hasCurrent f_objective f_pending f_matched f_depth f_guided f_bounded a_dom a_watch a_order a_direction a_termA a_termV a_cellX a_kind a_relation a_constant a_first a_second a_size a_number a_scope a_savedDom a_savedConstraints a_decidedVariable a_decidedValue a_current a_work a_sums a_grown a_image a_mate a_parent a_queue a_reach a_frames a_left f_current a_made a_terms a_goal a_words a_decision a_val a_seen hI
  obtain ⟨gN, gV, gT, gC, gK, gD, gL, gM, gU⟩ := hI
  show i_Rel (k + 4) (f_objectiveSlot, nI mv, nI mc, nI md, nI n, f_space, f_failed, 0, 0, nI m, nI lv, f_mode, f_found, f_exhausted, f_hasCurrent, f_objective, f_pending, f_matched, f_depth, f_guided, f_bounded, a_dom, a_watch, a_order, a_direction, a_termA, a_termV, a_cellX, a_kind, a_relation, a_constant, a_first, a_second, a_size, a_number, a_scope, a_savedDom, a_savedConstraints, a_decidedVariable, a_decidedValue, a_current, a_work, a_sums, a_grown, a_image, a_mate, a_parent, a_queue, a_reach, a_frames, a_left) (nI mv, nI mc, nI md, nI n, nI m, nI lv, f_failed, 0, 0, nI gn, f_mode, f_found, f_exhausted, f_current, a_made, a_dom, a_order, a_direction, a_terms, a_cellX, a_goal, a_words, a_savedDom, a_savedConstraints, a_decision, a_val, a_seen)
  exact fd_mk (tn := 0) (cn := 0) ⟨gN, gV, ⟨by omega, fun j hj => absurd hj (by omega), fun i j hi => absurd hi (by omega)⟩, ⟨by omega, fun j hj => absurd hj (by omega)⟩, gK, gD, gL, gM, gU⟩
theorem i_vc_domain {k : Nat} {u : SX} {v : SY} (I : i_Rel k u v) (hk : k + 4 ≤ 2051) (v1 : Int32) : wpX_domain (fun r => wpY_domain (fun r' => r' = r ∧ i_Rel (k + 4) u v) v v1) u v1 := by
  refine fd_el (P := fun u v => wpX_domain (fun r => wpY_domain (fun r' => r' = r ∧ i_Rel (k + 4) u v) v v1) u v1) I ?_
  intro n m lv tn cn gn mv mc md f_objectiveSlot f_space f_failed f_mode f_found f_exhausted f_hasCurrent f_objective f_pending f_matched f_depth f_guided f_bounded a_dom a_watch a_order a_direction a_termA a_termV a_cellX a_kind a_relation a_constant a_first a_second a_size a_number a_scope a_savedDom a_savedConstraints a_decidedVariable a_decidedValue a_current a_work a_sums a_grown a_image a_mate a_parent a_queue a_reach a_frames a_left f_current a_made a_terms a_goal a_words a_decision a_val a_seen hI
  have hI' := hI
  obtain ⟨⟨q1, q2, q3, q4, q5, q6⟩, gV, gT, gC, gK, gD, gL, gM, gU⟩ := hI'
  by_cases hf : f_failed = 0
  · refine br_t hf ?_
    rcases fd_isv v1 (n := n) (by omega) with ⟨w, hw, e⟩ | hno
    · subst e
      refine fd_xisv1 (n := n) (by omega) hw (br_f (by decide) ⟨fd_in8 (by omega), ?_⟩)
      show wpY_domain _ _ _
      unfold wpY_domain
      exact fd_yisv1 (n := n) (by omega) hw (br_f (by decide) (br_t hf ⟨fd_in8 (by omega), rfl, fd_mk hI⟩))
    · refine fd_xisv0 hno (br_t rfl ?_)
      show wpY_domain _ _ _
      unfold wpY_domain
      exact fd_yisv0 hno (br_t rfl ⟨rfl, fd_mk hI⟩)
  · refine br_f hf ?_
    show wpY_domain _ _ _
    unfold wpY_domain
    rcases fd_isv v1 (n := n) (by omega) with ⟨w, hw, e⟩ | hno
    · subst e
      exact fd_yisv1 (n := n) (by omega) hw (br_f (by decide) (br_f hf ⟨rfl, fd_mk hI⟩))
    · exact fd_yisv0 hno (br_t rfl ⟨rfl, fd_mk hI⟩)
end
section
/-! ===== label, push, pop ===== -/
/-- the labelling order with the first pl places moved up -/
def fd_sh : Nat → (Nat → Int32) → Nat → Int32
  | 0, ord => ord
  | p + 1, ord => fd_sh p (upd ord (p + 1) (ord p))
theorem fd_sh_at : ∀ pl (ord : Nat → Int32) (q : Nat), fd_sh pl ord q = if 1 ≤ q ∧ q ≤ pl then ord (q - 1) else ord q := by
  intro pl
  induction pl with
  | zero => intro ord q; rw [if_neg (by omega)]; rfl
  | succ p ih =>
    intro ord q
    show fd_sh p (upd ord (p + 1) (ord p)) q = _
    rw [ih]
    by_cases c : 1 ≤ q ∧ q ≤ p
    · rw [if_pos c, if_pos (by omega), pk_un (by omega)]
    · rw [if_neg c]
      by_cases d : q = p + 1
      · rw [d, pk_us, if_pos (by omega)]; rfl
      · rw [pk_un d, if_neg (by omega)]
theorem fd_lab_perm {n v pl : Nat} {ord : Nat → Int32} (hn : n ≤ 8) (hp : fd_Perm n (fd_or ord)) (ho : ∀ p, p < n → ord p = nI (fd_or ord p)) (hpl : pl < n) (hv : fd_or ord pl = v) : fd_Perm n (fd_or (upd (fd_sh pl ord) 0 (nI v))) ∧ ∀ p, p < n → upd (fd_sh pl ord) 0 (nI v) p = nI (fd_or (upd (fd_sh pl ord) 0 (nI v)) p) := by
  have hvn : v < n := by rw [← hv]; exact hp.1 pl hpl
  have ev : (nI v).toNatClampNeg = v := pk_cl v
  have at0 : fd_or (upd (fd_sh pl ord) 0 (nI v)) 0 = v := by unfold fd_or; rw [pk_us, ev]
  have at1 : ∀ p, 1 ≤ p → p ≤ pl → fd_or (upd (fd_sh pl ord) 0 (nI v)) p = fd_or ord (p - 1) := fun p h1 h2 => by
    unfold fd_or; rw [pk_un (by omega), fd_sh_at, if_pos ⟨h1, h2⟩]
  have at2 : ∀ p, pl < p → fd_or (upd (fd_sh pl ord) 0 (nI v)) p = fd_or ord p := fun p h => by
    unfold fd_or; rw [pk_un (by omega), fd_sh_at, if_neg (by omega)]
  -- the old place of each new place
  have key : ∀ p, p < n → ∃ q, q < n ∧ fd_or (upd (fd_sh pl ord) 0 (nI v)) p = fd_or ord q ∧ ((p = 0 ∧ q = pl) ∨ (1 ≤ p ∧ p ≤ pl ∧ q = p - 1) ∨ (pl < p ∧ q = p)) := by
    intro p hpn
    by_cases c : p = 0
    · exact ⟨pl, hpl, by rw [c, at0, hv], Or.inl ⟨c, rfl⟩⟩
    · by_cases d : p ≤ pl
      · exact ⟨p - 1, by omega, at1 p (by omega) d, Or.inr (Or.inl ⟨by omega, d, rfl⟩)⟩
      · exact ⟨p, hpn, at2 p (by omega), Or.inr (Or.inr ⟨by omega, rfl⟩)⟩
  refine ⟨⟨fun p hpn => ?_, fun p q hpn hqn e => ?_⟩, fun p hpn => ?_⟩
  · obtain ⟨q, hq, e, _⟩ := key p hpn
    rw [e]; exact hp.1 q hq
  · obtain ⟨a, ha, ea, ca⟩ := key p hpn
    obtain ⟨b, hb, eb, cb⟩ := key q hqn
    rw [ea, eb] at e
    have := hp.2 a b ha hb e
    omega
  · by_cases c : p = 0
    · rw [c, at0, pk_us]
    · by_cases d : p ≤ pl
      · rw [at1 p (by omega) d, pk_un c, fd_sh_at, if_pos ⟨by omega, d⟩]; exact ho (p - 1) (by omega)
      · rw [at2 p (by omega), pk_un c, fd_sh_at, if_neg (by omega)]; exact ho p hpn
section
variable {f_objectiveSlot f_maxVariables f_maxConstraints f_maxDepth f_variables f_space f_failed f_terms f_cells f_constraints f_level f_mode f_found f_exhausted f_hasCurrent f_objective f_pending : Int32} {f_matched : Int64} {f_depth f_guided f_bounded : Int32} {a_dom a_watch a_order a_direction a_termA a_termV a_cellX a_kind a_relation a_constant a_first a_second a_size a_number a_scope a_savedDom a_savedConstraints a_decidedVariable a_decidedValue a_current a_work a_sums a_grown : Nat → Int32} {a_image : Nat → Int64} {a_mate a_parent a_queue a_reach a_frames a_left : Nat → Int32} {post : Int32 → SX → Prop} {n v pl : Nat} {d : Int32}
theorem fd_xlab66 (hv : v < 8) : ∀ pl, pl < 8 → ∀ ord, post 0 (f_objectiveSlot, f_maxVariables, f_maxConstraints, f_maxDepth, f_variables, f_space, f_failed, f_terms, f_cells, f_constraints, f_level, f_mode, f_found, f_exhausted, f_hasCurrent, f_objective, f_pending, f_matched, f_depth, f_guided, f_bounded, a_dom, a_watch, upd (fd_sh pl ord) 0 (nI v), upd a_direction v d, a_termA, a_termV, a_cellX, a_kind, a_relation, a_constant, a_first, a_second, a_size, a_number, a_scope, a_savedDom, a_savedConstraints, a_decidedVariable, a_decidedValue, a_current, a_work, a_sums, a_grown, a_image, a_mate, a_parent, a_queue, a_reach, a_frames, a_left) → ∀ q, pl < q → wX_label_66 post (nI v) d f_objectiveSlot f_maxVariables f_maxConstraints f_maxDepth f_variables f_space f_failed f_terms f_cells f_constraints f_level f_mode f_found f_exhausted f_hasCurrent f_objective f_pending f_matched f_depth f_guided f_bounded q (nI pl) a_dom a_watch ord a_direction a_termA a_termV a_cellX a_kind a_relation a_constant a_first a_second a_size a_number a_scope a_savedDom a_savedConstraints a_decidedVariable a_decidedValue a_current a_work a_sums a_grown a_image a_mate a_parent a_queue a_reach a_frames a_left := by
  have ev : (nI v).toNatClampNeg = v := pk_cl v
  intro pl
  induction pl with
  | zero =>
    intro _ ord h q hq
    obtain ⟨q, rfl⟩ : ∃ q', q = q' + 1 := ⟨q - 1, by omega⟩
    refine pk_le 0 0 (fun _ => nm_e ⟨fd_in8 hv, ?_⟩) (fun c => absurd c (by omega))
    rw [ev]
    exact nm_e h
  | succ p ih =>
    intro hp ord h q hq
    obtain ⟨q, rfl⟩ : ∃ q', q = q' + 1 := ⟨q - 1, by omega⟩
    have e1 : nI (p + 1) - 1 = nI p := nI_pred p
    have e2 : (nI (p + 1)).toNatClampNeg = p + 1 := pk_cl _
    have e3 : (nI p).toNatClampNeg = p := pk_cl _
    refine pk_le (p + 1) 0 (fun c => absurd c (by omega)) (fun _ => ?_)
    rw [e1, e2, e3]
    exact ⟨pk_in p 8 (by omega), pk_in (p + 1) 8 hp, nm_e (nm_r (pk_m1 p) (ih (by omega) _ h q (by omega)))⟩
theorem fd_xlab34 (hn : n ≤ 8) (hv : v < n) (hpl : pl < n) (hat : ∀ p, p < n → (a_order p = nI v ↔ p = pl)) (h : post 0 (f_objectiveSlot, f_maxVariables, f_maxConstraints, f_maxDepth, nI n, f_space, f_failed, f_terms, f_cells, f_constraints, f_level, f_mode, f_found, f_exhausted, f_hasCurrent, f_objective, f_pending, f_matched, f_depth, f_guided, f_bounded, a_dom, a_watch, upd (fd_sh pl a_order) 0 (nI v), upd a_direction v d, a_termA, a_termV, a_cellX, a_kind, a_relation, a_constant, a_first, a_second, a_size, a_number, a_scope, a_savedDom, a_savedConstraints, a_decidedVariable, a_decidedValue, a_current, a_work, a_sums, a_grown, a_image, a_mate, a_parent, a_queue, a_reach, a_frames, a_left)) :
    ∀ t i, i + t = n → ∀ x : Int32, ((i ≤ pl ∧ x = 0) ∨ (pl < i ∧ x = nI pl)) → ∀ q, t < q → wX_label_34 post (nI v) d f_objectiveSlot f_maxVariables f_maxConstraints f_maxDepth (nI n) f_space f_failed f_terms f_cells f_constraints f_level f_mode f_found f_exhausted f_hasCurrent f_objective f_pending f_matched f_depth f_guided f_bounded a_dom a_watch a_order a_direction a_termA a_termV a_cellX a_kind a_relation a_constant a_first a_second a_size a_number a_scope a_savedDom a_savedConstraints a_decidedVariable a_decidedValue a_current a_work a_sums a_grown a_image a_mate a_parent a_queue a_reach a_frames a_left q x (nI i) := by
  intro t
  induction t with
  | zero =>
    intro i hi x hx q hq
    obtain ⟨q, rfl⟩ : ∃ q', q = q' + 1 := ⟨q - 1, by omega⟩
    have ex : x = nI pl := hx.elim (fun z => absurd z.1 (by omega)) (fun z => z.2)
    subst ex
    exact pk_le n i (fun _ => ⟨pl + 1, fd_xlab66 (by omega) pl (by omega) a_order h _ (by omega)⟩) (fun c => absurd c (by omega))
  | succ t ih =>
    intro i hi x hx q hq
    obtain ⟨q, rfl⟩ : ∃ q', q = q' + 1 := ⟨q - 1, by omega⟩
    have e : (nI i).toNatClampNeg = i := pk_cl i
    refine pk_le n i (fun c => absurd c (by omega)) (fun _ => ⟨pk_in i 8 (by omega), ?_⟩)
    rw [e]
    by_cases c : i = pl
    · exact br_t ((hat i (by omega)).mpr c) (nm_r (nI_1 i) (ih (i + 1) (by omega) _ (Or.inr ⟨by omega, by rw [c]⟩) q (by omega)))
    · exact br_f (fun z => c ((hat i (by omega)).mp z)) (nm_r (nI_1 i) (ih (i + 1) (by omega) x (hx.elim (fun z => Or.inl ⟨by omega, z.2⟩) (fun z => Or.inr ⟨by omega, z.2⟩)) q (by omega)))
end
section
variable {f_maxVariables f_maxConstraints f_maxDepth f_vars f_cons f_level f_failed f_termCount f_cellCount f_goalCount f_mode f_found f_exhausted f_current : Int32} {a_made a_dom a_order a_dir a_terms a_cells a_goal a_words a_savedDom a_savedCons a_decision a_val a_seen : Nat → Int32} {post : Int32 → SY → Prop} {n v pl : Nat} {d : Int32}
theorem fd_ylab66 (hv : v < 8) : ∀ pl, pl < 8 → ∀ ord, post 0 (f_maxVariables, f_maxConstraints, f_maxDepth, f_vars, f_cons, f_level, f_failed, f_termCount, f_cellCount, f_goalCount, f_mode, f_found, f_exhausted, f_current, a_made, a_dom, upd (fd_sh pl ord) 0 (nI v), upd a_dir v d, a_terms, a_cells, a_goal, a_words, a_savedDom, a_savedCons, a_decision, a_val, a_seen) → ∀ q, pl < q → wY_label_66 post (nI v) d f_maxVariables f_maxConstraints f_maxDepth f_vars f_cons f_level f_failed f_termCount f_cellCount f_goalCount f_mode f_found f_exhausted f_current q (nI pl) a_made a_dom ord a_dir a_terms a_cells a_goal a_words a_savedDom a_savedCons a_decision a_val a_seen := by
  have ev : (nI v).toNatClampNeg = v := pk_cl v
  intro pl
  induction pl with
  | zero =>
    intro _ ord h q hq
    obtain ⟨q, rfl⟩ : ∃ q', q = q' + 1 := ⟨q - 1, by omega⟩
    refine pk_le 0 0 (fun _ => nm_e ⟨fd_in8 hv, ?_⟩) (fun c => absurd c (by omega))
    rw [ev]
    exact nm_e h
  | succ p ih =>
    intro hp ord h q hq
    obtain ⟨q, rfl⟩ : ∃ q', q = q' + 1 := ⟨q - 1, by omega⟩
    have e1 : nI (p + 1) - 1 = nI p := nI_pred p
    have e2 : (nI (p + 1)).toNatClampNeg = p + 1 := pk_cl _
    have e3 : (nI p).toNatClampNeg = p := pk_cl _
    refine pk_le (p + 1) 0 (fun c => absurd c (by omega)) (fun _ => ?_)
    rw [e1, e2, e3]
    exact ⟨pk_in p 8 (by omega), pk_in (p + 1) 8 hp, nm_e (nm_r (pk_m1 p) (ih (by omega) _ h q (by omega)))⟩
theorem fd_ylab34 (hn : n ≤ 8) (hv : v < n) (hpl : pl < n) (hat : ∀ p, p < n → (a_order p = nI v ↔ p = pl)) (h : post 0 (f_maxVariables, f_maxConstraints, f_maxDepth, nI n, f_cons, f_level, f_failed, f_termCount, f_cellCount, f_goalCount, f_mode, f_found, f_exhausted, f_current, a_made, a_dom, upd (fd_sh pl a_order) 0 (nI v), upd a_dir v d, a_terms, a_cells, a_goal, a_words, a_savedDom, a_savedCons, a_decision, a_val, a_seen)) :
    ∀ t i, i + t = n → ∀ x : Int32, ((i ≤ pl ∧ x = 0) ∨ (pl < i ∧ x = nI pl)) → ∀ q, t < q → wY_label_34 post (nI v) d f_maxVariables f_maxConstraints f_maxDepth (nI n) f_cons f_level f_failed f_termCount f_cellCount f_goalCount f_mode f_found f_exhausted f_current a_made a_dom a_order a_dir a_terms a_cells a_goal a_words a_savedDom a_savedCons a_decision a_val a_seen q x (nI i) := by
  intro t
  induction t with
  | zero =>
    intro i hi x hx q hq
    obtain ⟨q, rfl⟩ : ∃ q', q = q' + 1 := ⟨q - 1, by omega⟩
    have ex : x = nI pl := hx.elim (fun z => absurd z.1 (by omega)) (fun z => z.2)
    subst ex
    exact pk_le n i (fun _ => ⟨pl + 1, fd_ylab66 (by omega) pl (by omega) a_order h _ (by omega)⟩) (fun c => absurd c (by omega))
  | succ t ih =>
    intro i hi x hx q hq
    obtain ⟨q, rfl⟩ : ∃ q', q = q' + 1 := ⟨q - 1, by omega⟩
    have e : (nI i).toNatClampNeg = i := pk_cl i
    refine pk_le n i (fun c => absurd c (by omega)) (fun _ => ⟨pk_in i 8 (by omega), ?_⟩)
    rw [e]
    by_cases c : i = pl
    · exact br_t ((hat i (by omega)).mpr c) (nm_r (nI_1 i) (ih (i + 1) (by omega) _ (Or.inr ⟨by omega, by rw [c]⟩) q (by omega)))
    · exact br_f (fun z => c ((hat i (by omega)).mp z)) (nm_r (nI_1 i) (ih (i + 1) (by omega) x (hx.elim (fun z => Or.inl ⟨by omega, z.2⟩) (fun z => Or.inr ⟨by omega, z.2⟩)) q (by omega)))
end
theorem i_vc_label {k : Nat} {u : SX} {v : SY} (I : i_Rel k u v) (hk : k + 4 ≤ 2051) (v1 : Int32) (v2 : Int32) : wpX_label (fun r u' => wpY_label (fun r' v' => r' = r ∧ i_Rel (k + 4) u' v') v v1 v2) u v1 v2 := by
  refine fd_el (P := fun u v => wpX_label (fun r u' => wpY_label (fun r' v' => r' = r ∧ i_Rel (k + 4) u' v') v v1 v2) u v1 v2) I ?_
  intro n m lv tn cn gn mv mc md f_objectiveSlot f_space f_failed f_mode f_found f_exhausted f_hasCurrent f_objective f_pending f_matched f_depth f_guided f_bounded a_dom a_watch a_order a_direction a_termA a_termV a_cellX a_kind a_relation a_constant a_first a_second a_size a_number a_scope a_savedDom a_savedConstraints a_decidedVariable a_decidedValue a_current a_work a_sums a_grown a_image a_mate a_parent a_queue a_reach a_frames a_left f_current a_made a_terms a_goal a_words a_decision a_val a_seen hI
  have hI' := hI
  obtain ⟨⟨q1, q2, q3, q4, q5, q6⟩, ⟨o1, o2, o3, o4, o5⟩, gT, gC, gK, gD, gL, gM, gU⟩ := hI'
  by_cases hm : f_mode = 0
  · refine br_t hm ?_
    rcases fd_isv v1 (n := n) (by omega) with ⟨w, hw, e⟩ | hno
    · subst e
      refine fd_xisv1 (n := n) (by omega) hw (br_f (by decide) ?_)
      obtain ⟨pl, hpl, ep⟩ := fd_Perm_on o1 hw
      have hat : ∀ p, p < n → (a_order p = nI w ↔ p = pl) := fun p hp => by
        have hw8 := o1.1 p hp
        rw [o2 p hp, nI_eq (by omega) (by omega)]
        exact ⟨fun z => o1.2 p pl hp hpl (by rw [z, ep]), fun z => by rw [z]; exact ep⟩
      have done : ∀ d : Int32, (d = 0 ∨ d = 1) → i_Rel (k + 4) (f_objectiveSlot, nI mv, nI mc, nI md, nI n, f_space, f_failed, nI tn, nI cn, nI m, nI lv, f_mode, f_found, f_exhausted, f_hasCurrent, f_objective, f_pending, f_matched, f_depth, f_guided, f_bounded, a_dom, a_watch, upd (fd_sh pl a_order) 0 (nI w), upd a_direction w d, a_termA, a_termV, a_cellX, a_kind, a_relation, a_constant, a_first, a_second, a_size, a_number, a_scope, a_savedDom, a_savedConstraints, a_decidedVariable, a_decidedValue, a_current, a_work, a_sums, a_grown, a_image, a_mate, a_parent, a_queue, a_reach, a_frames, a_left) (nI mv, nI mc, nI md, nI n, nI m, nI lv, f_failed, nI tn, nI cn, nI gn, f_mode, f_found, f_exhausted, f_current, a_made, a_dom, upd (fd_sh pl a_order) 0 (nI w), upd a_direction w d, a_terms, a_cellX, a_goal, a_words, a_savedDom, a_savedConstraints, a_decision, a_val, a_seen) := fun d hd => by
        have hp := fd_lab_perm (by omega) o1 o2 hpl ep
        refine fd_mk ⟨⟨q1, q2, q3, q4, q5, q6⟩, ⟨hp.1, hp.2, fun x hx => ?_, o4, o5⟩, gT, gC, gK, gD, gL, gM, ?_⟩
        · by_cases c : x = w
          · rw [c, pk_us]; exact hd
          · rw [pk_un c]; exact o3 x hx
        · rcases gU with a | ⟨_, a, _⟩
          · exact Or.inl a
          · exact absurd hm a
      have xw : ∀ d : Int32, (d = 0 ∨ d = 1) → ∃ q, wX_label_34 (fun r u' => wpY_label (fun r' v' => r' = r ∧ i_Rel (k + 4) u' v') (nI mv, nI mc, nI md, nI n, nI m, nI lv, f_failed, nI tn, nI cn, nI gn, f_mode, f_found, f_exhausted, f_current, a_made, a_dom, a_order, a_direction, a_terms, a_cellX, a_goal, a_words, a_savedDom, a_savedConstraints, a_decision, a_val, a_seen) (nI w) d) (nI w) d f_objectiveSlot (nI mv) (nI mc) (nI md) (nI n) f_space f_failed (nI tn) (nI cn) (nI m) (nI lv) f_mode f_found f_exhausted f_hasCurrent f_objective f_pending f_matched f_depth f_guided f_bounded a_dom a_watch a_order a_direction a_termA a_termV a_cellX a_kind a_relation a_constant a_first a_second a_size a_number a_scope a_savedDom a_savedConstraints a_decidedVariable a_decidedValue a_current a_work a_sums a_grown a_image a_mate a_parent a_queue a_reach a_frames a_left q 0 0 := fun d hd => by
        refine ⟨n + 1, fd_xlab34 (n := n) (by omega) hw hpl hat ?_ n 0 (by omega) 0 (Or.inl ⟨by omega, rfl⟩) _ (by omega)⟩
        have yw : ∃ q, wY_label_34 (fun r' v' => r' = 0 ∧ i_Rel (k + 4) (f_objectiveSlot, nI mv, nI mc, nI md, nI n, f_space, f_failed, nI tn, nI cn, nI m, nI lv, f_mode, f_found, f_exhausted, f_hasCurrent, f_objective, f_pending, f_matched, f_depth, f_guided, f_bounded, a_dom, a_watch, upd (fd_sh pl a_order) 0 (nI w), upd a_direction w d, a_termA, a_termV, a_cellX, a_kind, a_relation, a_constant, a_first, a_second, a_size, a_number, a_scope, a_savedDom, a_savedConstraints, a_decidedVariable, a_decidedValue, a_current, a_work, a_sums, a_grown, a_image, a_mate, a_parent, a_queue, a_reach, a_frames, a_left) v') (nI w) d (nI mv) (nI mc) (nI md) (nI n) (nI m) (nI lv) f_failed (nI tn) (nI cn) (nI gn) f_mode f_found f_exhausted f_current a_made a_dom a_order a_direction a_terms a_cellX a_goal a_words a_savedDom a_savedConstraints a_decision a_val a_seen q 0 0 :=
          ⟨n + 1, fd_ylab34 (n := n) (by omega) hw hpl hat ⟨rfl, done d hd⟩ n 0 (by omega) 0 (Or.inl ⟨by omega, rfl⟩) _ (by omega)⟩
        refine br_t hm (fd_yisv1 (n := n) (by omega) hw (br_f (by decide) ?_))
        rcases hd with e | e
        · subst e; exact br_t rfl yw
        · subst e; exact br_f (by decide) (br_t rfl yw)
      by_cases d0 : v2 = 0
      · subst d0; exact br_t rfl (xw 0 (Or.inl rfl))
      · by_cases d1 : v2 = 1
        · subst d1; exact br_f (by decide) (br_t rfl (xw 1 (Or.inr rfl)))
        · exact br_f d0 (br_f d1 (br_t hm (fd_yisv1 (n := n) (by omega) hw (br_f (by decide) (br_f d0 (br_f d1 ⟨rfl, fd_mk hI⟩))))))
    · exact fd_xisv0 hno (br_t rfl (br_t hm (fd_yisv0 hno (br_t rfl ⟨rfl, fd_mk hI⟩))))
  · exact br_f hm (br_f hm ⟨rfl, fd_mk hI⟩)
/-! levels -/
def fd_sv (sd dm : Nat → Int32) (b : Nat) : Nat → Nat → Int32
  | 0 => sd
  | i + 1 => upd (fd_sv sd dm b i) (b + i) (dm i)
theorem fd_sv_at (sd dm : Nat → Int32) (b : Nat) : ∀ i j, fd_sv sd dm b i j = if b ≤ j ∧ j < b + i then dm (j - b) else sd j := by
  intro i
  induction i with
  | zero => intro j; rw [if_neg (by omega)]; rfl
  | succ i ih =>
    intro j
    show upd (fd_sv sd dm b i) (b + i) (dm i) j = _
    by_cases c : j = b + i
    · rw [c, pk_us, if_pos (by omega)]; congr 1; omega
    · rw [pk_un c, ih]
      by_cases d : b ≤ j ∧ j < b + i
      · rw [if_pos d, if_pos (by omega)]
      · rw [if_neg d, if_neg (by omega)]
/-- dom taken back from the saved ones -/
def fd_tb (dm sd : Nat → Int32) (b : Nat) : Nat → Nat → Int32
  | 0 => dm
  | i + 1 => upd (fd_tb dm sd b i) i (sd (b + i))
theorem fd_tb_at (dm sd : Nat → Int32) (b : Nat) : ∀ i j, fd_tb dm sd b i j = if j < i then sd (b + j) else dm j := by
  intro i
  induction i with
  | zero => intro j; rw [if_neg (by omega)]; rfl
  | succ i ih =>
    intro j
    show upd (fd_tb dm sd b i) i (sd (b + i)) j = _
    by_cases c : j = i
    · rw [c, pk_us, if_pos (by omega)]
    · rw [pk_un c, ih]
      by_cases d : j < i
      · rw [if_pos d, if_pos (by omega)]
      · rw [if_neg d, if_neg (by omega)]
theorem fd_stand : ∀ k, k < 13 → ∀ d, d < 32 → bt (((1 : Int32) <<< (nI k &&& 31)) - 1) d = decide (d < k) := by decide +kernel
section
variable {f_objectiveSlot f_maxVariables f_maxConstraints f_maxDepth f_variables f_space f_failed f_terms f_cells f_constraints f_level f_mode f_found f_exhausted f_hasCurrent f_objective f_pending : Int32} {f_matched : Int64} {f_depth f_guided f_bounded : Int32} {a_dom a_watch a_order a_direction a_termA a_termV a_cellX a_kind a_relation a_constant a_first a_second a_size a_number a_scope a_savedDom a_savedConstraints a_decidedVariable a_decidedValue a_current a_work a_sums a_grown : Nat → Int32} {a_image : Nat → Int64} {a_mate a_parent a_queue a_reach a_frames a_left : Nat → Int32} {post : SX → Prop} {n m lv : Nat} {x1 x2 : Int32}
theorem fd_xopen11 (hn : n ≤ 8) (hl : lv < 8) (h : post (f_objectiveSlot, f_maxVariables, f_maxConstraints, f_maxDepth, nI n, f_space, f_failed, f_terms, f_cells, f_constraints, nI (lv + 1), f_mode, f_found, f_exhausted, f_hasCurrent, f_objective, f_pending, f_matched, f_depth, f_guided, f_bounded, a_dom, a_watch, a_order, a_direction, a_termA, a_termV, a_cellX, a_kind, a_relation, a_constant, a_first, a_second, a_size, a_number, a_scope, fd_sv a_savedDom a_dom (8 * lv) n, upd a_savedConstraints lv f_constraints, upd a_decidedVariable lv x1, upd a_decidedValue lv x2, a_current, a_work, a_sums, a_grown, a_image, a_mate, a_parent, a_queue, a_reach, a_frames, a_left)) :
    ∀ t i, i + t = n → ∀ q, t < q → wX_openLevel_11 post x1 x2 (nI (8 * lv)) f_objectiveSlot f_maxVariables f_maxConstraints f_maxDepth (nI n) f_space f_failed f_terms f_cells f_constraints (nI lv) f_mode f_found f_exhausted f_hasCurrent f_objective f_pending f_matched f_depth f_guided f_bounded q (nI i) a_dom a_watch a_order a_direction a_termA a_termV a_cellX a_kind a_relation a_constant a_first a_second a_size a_number a_scope (fd_sv a_savedDom a_dom (8 * lv) i) a_savedConstraints a_decidedVariable a_decidedValue a_current a_work a_sums a_grown a_image a_mate a_parent a_queue a_reach a_frames a_left := by
  have el : (nI lv).toNatClampNeg = lv := pk_cl lv
  intro t
  induction t with
  | zero =>
    intro i hi q hq
    obtain ⟨q, rfl⟩ : ∃ q', q = q' + 1 := ⟨q - 1, by omega⟩
    have e : i = n := by omega
    subst e
    refine pk_le i i (fun _ => ⟨pk_in lv 8 hl, ?_⟩) (fun c => absurd c (by omega))
    rw [el]
    exact nm_e ⟨pk_in lv 8 hl, nm_e ⟨pk_in lv 8 hl, nm_e (nm_r (nI_1 lv) h)⟩⟩
  | succ t ih =>
    intro i hi q hq
    obtain ⟨q, rfl⟩ : ∃ q', q = q' + 1 := ⟨q - 1, by omega⟩
    have e : (nI i).toNatClampNeg = i := pk_cl i
    have e2 : (nI (8 * lv + i)).toNatClampNeg = 8 * lv + i := pk_cl _
    refine pk_le n i (fun c => absurd c (by omega)) (fun _ => ⟨pk_in i 8 (by omega), ?_⟩)
    rw [nI_add, e, e2]
    exact ⟨pk_in (8 * lv + i) 64 (by omega), nm_e (nm_r (nI_1 i) (ih (i + 1) (by omega) q (by omega)))⟩
theorem fd_xopen (hn : n ≤ 8) (hl : lv < 8) (h : post (f_objectiveSlot, f_maxVariables, f_maxConstraints, f_maxDepth, nI n, f_space, f_failed, f_terms, f_cells, f_constraints, nI (lv + 1), f_mode, f_found, f_exhausted, f_hasCurrent, f_objective, f_pending, f_matched, f_depth, f_guided, f_bounded, a_dom, a_watch, a_order, a_direction, a_termA, a_termV, a_cellX, a_kind, a_relation, a_constant, a_first, a_second, a_size, a_number, a_scope, fd_sv a_savedDom a_dom (8 * lv) n, upd a_savedConstraints lv f_constraints, upd a_decidedVariable lv x1, upd a_decidedValue lv x2, a_current, a_work, a_sums, a_grown, a_image, a_mate, a_parent, a_queue, a_reach, a_frames, a_left)) : wpX_openLevel post (f_objectiveSlot, f_maxVariables, f_maxConstraints, f_maxDepth, nI n, f_space, f_failed, f_terms, f_cells, f_constraints, nI lv, f_mode, f_found, f_exhausted, f_hasCurrent, f_objective, f_pending, f_matched, f_depth, f_guided, f_bounded, a_dom, a_watch, a_order, a_direction, a_termA, a_termV, a_cellX, a_kind, a_relation, a_constant, a_first, a_second, a_size, a_number, a_scope, a_savedDom, a_savedConstraints, a_decidedVariable, a_decidedValue, a_current, a_work, a_sums, a_grown, a_image, a_mate, a_parent, a_queue, a_reach, a_frames, a_left) x1 x2 := by
  have e : nI lv * 8 = nI (8 * lv) := by
    have e : nI lv * 8 = nI (lv * 8) := pk_mul lv 8
    rw [e, Nat.mul_comm]
  exact nm_r e ⟨n + 1, fd_xopen11 hn hl h n 0 (by omega) _ (by omega)⟩
theorem fd_xback42 (hn : n ≤ 8) (hl : lv < 8) {st : Int32} (h : ∀ wt, (∀ v, v < n → wt v = a_watch v &&& st) → post (f_objectiveSlot, f_maxVariables, f_maxConstraints, f_maxDepth, nI n, f_space, 0, f_terms, f_cells, f_constraints, f_level, f_mode, f_found, f_exhausted, f_hasCurrent, f_objective, f_pending, f_matched, f_depth, f_guided, f_bounded, fd_tb a_dom a_savedDom (8 * lv) n, wt, a_order, a_direction, a_termA, a_termV, a_cellX, a_kind, a_relation, a_constant, a_first, a_second, a_size, a_number, a_scope, a_savedDom, a_savedConstraints, a_decidedVariable, a_decidedValue, a_current, a_work, a_sums, a_grown, a_image, a_mate, a_parent, a_queue, a_reach, a_frames, a_left)) :
    ∀ t i, i + t = n → ∀ wt, (∀ v, v < i → wt v = a_watch v &&& st) → (∀ v, i ≤ v → wt v = a_watch v) → ∀ q, t < q → wX_takeBack_42 post (nI (8 * lv)) st f_objectiveSlot f_maxVariables f_maxConstraints f_maxDepth (nI n) f_space f_failed f_terms f_cells f_constraints f_level f_mode f_found f_exhausted f_hasCurrent f_objective f_pending f_matched f_depth f_guided f_bounded q (nI i) (fd_tb a_dom a_savedDom (8 * lv) i) wt a_order a_direction a_termA a_termV a_cellX a_kind a_relation a_constant a_first a_second a_size a_number a_scope a_savedDom a_savedConstraints a_decidedVariable a_decidedValue a_current a_work a_sums a_grown a_image a_mate a_parent a_queue a_reach a_frames a_left := by
  intro t
  induction t with
  | zero =>
    intro i hi wt h1 h2 q hq
    obtain ⟨q, rfl⟩ : ∃ q', q = q' + 1 := ⟨q - 1, by omega⟩
    have e : i = n := by omega
    subst e
    exact pk_le i i (fun _ => h wt h1) (fun c => absurd c (by omega))
  | succ t ih =>
    intro i hi wt h1 h2 q hq
    obtain ⟨q, rfl⟩ : ∃ q', q = q' + 1 := ⟨q - 1, by omega⟩
    have e : (nI i).toNatClampNeg = i := pk_cl i
    have e2 : (nI (8 * lv + i)).toNatClampNeg = 8 * lv + i := pk_cl _
    refine pk_le n i (fun c => absurd c (by omega)) (fun _ => ?_)
    rw [nI_add, e, e2]
    refine ⟨pk_in (8 * lv + i) 64 (by omega), pk_in i 8 (by omega), nm_e ⟨pk_in i 8 (by omega), pk_in i 8 (by omega), nm_e (nm_r (nI_1 i) (ih (i + 1) (by omega) _ (fun v hv => ?_) (fun v hv => ?_) q (by omega)))⟩⟩
    · by_cases c : v = i
      · rw [c, pk_us, h2 i (Nat.le_refl _)]
      · rw [pk_un c]; exact h1 v (by omega)
    · rw [pk_un (by omega)]; exact h2 v (by omega)
theorem fd_xback (hn : n ≤ 8) (hl : lv < 8) (hsc : a_savedConstraints lv = nI m) (h : ∀ wt, (∀ v, v < n → wt v = a_watch v &&& (((1 : Int32) <<< (nI m &&& 31)) - 1)) → post (f_objectiveSlot, f_maxVariables, f_maxConstraints, f_maxDepth, nI n, f_space, 0, f_terms, f_cells, nI m, nI lv, f_mode, f_found, f_exhausted, f_hasCurrent, f_objective, f_pending, f_matched, f_depth, f_guided, f_bounded, fd_tb a_dom a_savedDom (8 * lv) n, wt, a_order, a_direction, a_termA, a_termV, a_cellX, a_kind, a_relation, a_constant, a_first, a_second, a_size, a_number, a_scope, a_savedDom, a_savedConstraints, a_decidedVariable, a_decidedValue, a_current, a_work, a_sums, a_grown, a_image, a_mate, a_parent, a_queue, a_reach, a_frames, a_left)) : wpX_takeBack post (f_objectiveSlot, f_maxVariables, f_maxConstraints, f_maxDepth, nI n, f_space, f_failed, f_terms, f_cells, f_constraints, nI (lv + 1), f_mode, f_found, f_exhausted, f_hasCurrent, f_objective, f_pending, f_matched, f_depth, f_guided, f_bounded, a_dom, a_watch, a_order, a_direction, a_termA, a_termV, a_cellX, a_kind, a_relation, a_constant, a_first, a_second, a_size, a_number, a_scope, a_savedDom, a_savedConstraints, a_decidedVariable, a_decidedValue, a_current, a_work, a_sums, a_grown, a_image, a_mate, a_parent, a_queue, a_reach, a_frames, a_left) := by
  have e : nI lv * 8 = nI (8 * lv) := by
    have e : nI lv * 8 = nI (lv * 8) := pk_mul lv 8
    rw [e, Nat.mul_comm]
  have el : (nI lv).toNatClampNeg = lv := pk_cl lv
  refine nm_r (nI_pred lv) (nm_r e ⟨pk_in lv 8 hl, ?_⟩)
  rw [el]
  exact nm_r hsc (nm_e ⟨n + 1, fd_xback42 hn hl h n 0 (by omega) a_watch (fun v hv => absurd hv (by omega)) (fun _ _ => rfl) _ (by omega)⟩)
end
section
variable {f_maxVariables f_maxConstraints f_maxDepth f_vars f_cons f_level f_failed f_termCount f_cellCount f_goalCount f_mode f_found f_exhausted f_current : Int32} {a_made a_dom a_order a_dir a_terms a_cells a_goal a_words a_savedDom a_savedCons a_decision a_val a_seen : Nat → Int32} {post : SY → Prop} {n m lv : Nat} {x1 : Int32}
theorem fd_ymake2 (hn : n ≤ 8) (hl : lv < 8) (h : post (f_maxVariables, f_maxConstraints, f_maxDepth, nI n, f_cons, nI (lv + 1), f_failed, f_termCount, f_cellCount, f_goalCount, f_mode, f_found, f_exhausted, f_current, a_made, a_dom, a_order, a_dir, a_terms, a_cells, a_goal, a_words, fd_sv a_savedDom a_dom (8 * lv) n, upd a_savedCons lv f_cons, upd a_decision lv x1, a_val, a_seen)) :
    ∀ t i, i + t = n → ∀ q, t < q → wY_makeLevel_2 post x1 f_maxVariables f_maxConstraints f_maxDepth (nI n) f_cons (nI lv) f_failed f_termCount f_cellCount f_goalCount f_mode f_found f_exhausted f_current q (nI i) a_made a_dom a_order a_dir a_terms a_cells a_goal a_words (fd_sv a_savedDom a_dom (8 * lv) i) a_savedCons a_decision a_val a_seen := by
  have el : (nI lv).toNatClampNeg = lv := pk_cl lv
  have e8 : nI lv * 8 = nI (8 * lv) := by
    have e : nI lv * 8 = nI (lv * 8) := pk_mul lv 8
    rw [e, Nat.mul_comm]
  intro t
  induction t with
  | zero =>
    intro i hi q hq
    obtain ⟨q, rfl⟩ : ∃ q', q = q' + 1 := ⟨q - 1, by omega⟩
    have e : i = n := by omega
    subst e
    refine pk_le i i (fun _ => ⟨pk_in lv 8 hl, ?_⟩) (fun c => absurd c (by omega))
    rw [el]
    exact nm_e ⟨pk_in lv 8 hl, nm_e (nm_r (nI_1 lv) h)⟩
  | succ t ih =>
    intro i hi q hq
    obtain ⟨q, rfl⟩ : ∃ q', q = q' + 1 := ⟨q - 1, by omega⟩
    have e : (nI i).toNatClampNeg = i := pk_cl i
    have e2 : (nI (8 * lv + i)).toNatClampNeg = 8 * lv + i := pk_cl _
    refine pk_le n i (fun c => absurd c (by omega)) (fun _ => ⟨pk_in i 8 (by omega), ?_⟩)
    rw [e8, nI_add, e, e2]
    exact ⟨pk_in (8 * lv + i) 64 (by omega), nm_e (nm_r (nI_1 i) (ih (i + 1) (by omega) q (by omega)))⟩
theorem fd_ymake (hn : n ≤ 8) (hl : lv < 8) (h : post (f_maxVariables, f_maxConstraints, f_maxDepth, nI n, f_cons, nI (lv + 1), f_failed, f_termCount, f_cellCount, f_goalCount, f_mode, f_found, f_exhausted, f_current, a_made, a_dom, a_order, a_dir, a_terms, a_cells, a_goal, a_words, fd_sv a_savedDom a_dom (8 * lv) n, upd a_savedCons lv f_cons, upd a_decision lv x1, a_val, a_seen)) : wpY_makeLevel post (f_maxVariables, f_maxConstraints, f_maxDepth, nI n, f_cons, nI lv, f_failed, f_termCount, f_cellCount, f_goalCount, f_mode, f_found, f_exhausted, f_current, a_made, a_dom, a_order, a_dir, a_terms, a_cells, a_goal, a_words, a_savedDom, a_savedCons, a_decision, a_val, a_seen) x1 :=
  ⟨n + 1, fd_ymake2 hn hl h n 0 (by omega) _ (by omega)⟩
theorem fd_yback12 (hn : n ≤ 8) (hl : lv < 8) (hsc : a_savedCons lv = nI m) (h : post (f_maxVariables, f_maxConstraints, f_maxDepth, nI n, nI m, nI lv, 0, f_termCount, f_cellCount, f_goalCount, f_mode, f_found, f_exhausted, f_current, a_made, fd_tb a_dom a_savedDom (8 * lv) n, a_order, a_dir, a_terms, a_cells, a_goal, a_words, a_savedDom, a_savedCons, a_decision, a_val, a_seen)) :
    ∀ t i, i + t = n → ∀ q, t < q → wY_takeBack_12 post f_maxVariables f_maxConstraints f_maxDepth (nI n) f_cons (nI lv) f_failed f_termCount f_cellCount f_goalCount f_mode f_found f_exhausted f_current q (nI i) a_made (fd_tb a_dom a_savedDom (8 * lv) i) a_order a_dir a_terms a_cells a_goal a_words a_savedDom a_savedCons a_decision a_val a_seen := by
  have el : (nI lv).toNatClampNeg = lv := pk_cl lv
  have e8 : nI lv * 8 = nI (8 * lv) := by
    have e : nI lv * 8 = nI (lv * 8) := pk_mul lv 8
    rw [e, Nat.mul_comm]
  intro t
  induction t with
  | zero =>
    intro i hi q hq
    obtain ⟨q, rfl⟩ : ∃ q', q = q' + 1 := ⟨q - 1, by omega⟩
    have e : i = n := by omega
    subst e
    refine pk_le i i (fun _ => ⟨pk_in lv 8 hl, ?_⟩) (fun c => absurd c (by omega))
    rw [el]
    exact nm_r hsc h
  | succ t ih =>
    intro i hi q hq
    obtain ⟨q, rfl⟩ : ∃ q', q = q' + 1 := ⟨q - 1, by omega⟩
    have e : (nI i).toNatClampNeg = i := pk_cl i
    have e2 : (nI (8 * lv + i)).toNatClampNeg = 8 * lv + i := pk_cl _
    refine pk_le n i (fun c => absurd c (by omega)) (fun _ => ?_)
    rw [e8, nI_add, e, e2]
    exact ⟨pk_in (8 * lv + i) 64 (by omega), pk_in i 8 (by omega), nm_e (nm_r (nI_1 i) (ih (i + 1) (by omega) q (by omega)))⟩
theorem fd_yback (hn : n ≤ 8) (hl : lv < 8) (hsc : a_savedCons lv = nI m) (h : post (f_maxVariables, f_maxConstraints, f_maxDepth, nI n, nI m, nI lv, 0, f_termCount, f_cellCount, f_goalCount, f_mode, f_found, f_exhausted, f_current, a_made, fd_tb a_dom a_savedDom (8 * lv) n, a_order, a_dir, a_terms, a_cells, a_goal, a_words, a_savedDom, a_savedCons, a_decision, a_val, a_seen)) : wpY_takeBack post (f_maxVariables, f_maxConstraints, f_maxDepth, nI n, f_cons, nI (lv + 1), f_failed, f_termCount, f_cellCount, f_goalCount, f_mode, f_found, f_exhausted, f_current, a_made, a_dom, a_order, a_dir, a_terms, a_cells, a_goal, a_words, a_savedDom, a_savedCons, a_decision, a_val, a_seen) :=
  nm_r (nI_pred lv) ⟨n + 1, fd_yback12 hn hl hsc h n 0 (by omega) _ (by omega)⟩
end
section
variable {n m lv tn cn gn mv mc md : Nat} {f_space f_failed f_mode f_hasCurrent f_objective : Int32} {a_dom a_watch a_order a_direction a_termA a_termV a_cellX a_kind a_relation a_constant a_first a_second a_size a_number a_scope a_savedDom a_savedConstraints a_decidedVariable a_decidedValue a_current : Nat → Int32} {f_current : Int32} {a_made a_terms a_goal a_words a_decision : Nat → Int32}
/-- a level more -/
theorem fd_IR_open (hI : fd_IR n m lv tn cn gn mv mc md f_space f_failed f_mode f_hasCurrent f_objective a_dom a_watch a_order a_direction a_termA a_termV a_cellX a_kind a_relation a_constant a_first a_second a_size a_number a_scope a_savedDom a_savedConstraints a_decidedVariable a_decidedValue a_current f_current a_made a_terms a_goal a_words a_decision) (hm : f_mode = 0) (hf : f_failed = 0) (hl : lv < md) {dv dd dc : Int32} (hd : (dv = -1 ∧ dc = -1) ∨ ∃ v d, v < n ∧ d < 32 ∧ dv = nI v ∧ dd = nI d ∧ dc = nI (v * 32 + d)) :
    fd_IR n m (lv + 1) tn cn gn mv mc md f_space f_failed f_mode f_hasCurrent f_objective a_dom a_watch a_order a_direction a_termA a_termV a_cellX a_kind a_relation a_constant a_first a_second a_size a_number a_scope (fd_sv a_savedDom a_dom (8 * lv) n) (upd a_savedConstraints lv (nI m)) (upd a_decidedVariable lv dv) (upd a_decidedValue lv dd) a_current f_current a_made a_terms a_goal a_words (upd a_decision lv dc) := by
  obtain ⟨⟨q1, q2, q3, q4, q5, q6⟩, gV, gT, gC, gK, gD, ⟨l1, l2⟩, gM, gU⟩ := hI
  have em : (nI m).toNatClampNeg = m := pk_cl m
  have hD : fd_Good n m (a_kind, a_relation, a_constant, a_first, a_second, a_size, a_number, a_scope) a_dom ∧ fd_Sub n a_dom a_made := by
    rcases gD with ⟨_, a, b⟩ | ⟨a, _⟩
    · exact ⟨a, b⟩
    · rw [hf] at a; exact absurd a (by decide)
  have sv0 : ∀ l, l < lv → ∀ v, v < n → fd_sv a_savedDom a_dom (8 * lv) n (8 * l + v) = a_savedDom (8 * l + v) := fun l hl v hv => by
    rw [fd_sv_at, if_neg (by omega)]
  have sv1 : ∀ v, v < n → fd_sv a_savedDom a_dom (8 * lv) n (8 * lv + v) = a_dom v := fun v hv => by
    rw [fd_sv_at, if_pos (by omega)]; congr 1; omega
  refine ⟨⟨q1, q2, q3, q4, q5, by omega⟩, gV, gT, gC, gK, gD, ⟨fun l hl' => ?_, fun l l' h1 h2 => ?_⟩, gM, gU⟩
  · by_cases c : l = lv
    · subst c
      rw [pk_us, pk_us, pk_us, pk_us, em]
      exact ⟨rfl, Nat.le_refl _, fd_Good_congr gK.1 (fun v hv => (sv1 v hv).symm) hD.1, fun v hv d hd' => hD.2 v hv d (by rw [← sv1 v hv]; exact hd'), hd⟩
    · rw [pk_un c, pk_un c, pk_un c, pk_un c]
      obtain ⟨a, b, d, e, f⟩ := l1 l (by omega)
      exact ⟨a, b, fd_Good_congr (fun c hc => gK.1 c (by omega)) (fun v hv => (sv0 l (by omega) v hv).symm) d, fun v hv d hd' => e v hv d (by show bt (a_savedDom (8 * l + v)) d = true; rw [← sv0 l (by omega) v hv]; exact hd'), f⟩
  · by_cases c : l' = lv
    · rw [c, pk_us, em]
      by_cases c2 : l = lv
      · rw [c2, pk_us, em]; exact Nat.le_refl _
      · rw [pk_un c2]; exact (l1 l (by omega)).2.1
    · rw [pk_un c, pk_un (by omega)]; exact l2 l l' h1 (by omega)
/-- a level less -/
theorem fd_IR_back (hI : fd_IR n m (lv + 1) tn cn gn mv mc md f_space f_failed f_mode f_hasCurrent f_objective a_dom a_watch a_order a_direction a_termA a_termV a_cellX a_kind a_relation a_constant a_first a_second a_size a_number a_scope a_savedDom a_savedConstraints a_decidedVariable a_decidedValue a_current f_current a_made a_terms a_goal a_words a_decision) (hm : f_mode = 0) {wt : Nat → Int32} (hw : ∀ v, v < n → wt v = a_watch v &&& (((1 : Int32) <<< (nI (a_savedConstraints lv).toNatClampNeg &&& 31)) - 1)) :
    fd_IR n ((a_savedConstraints lv).toNatClampNeg) lv tn cn gn mv mc md f_space 0 f_mode f_hasCurrent f_objective (fd_tb a_dom a_savedDom (8 * lv) n) wt a_order a_direction a_termA a_termV a_cellX a_kind a_relation a_constant a_first a_second a_size a_number a_scope a_savedDom a_savedConstraints a_decidedVariable a_decidedValue a_current f_current a_made a_terms a_goal a_words a_decision := by
  obtain ⟨⟨q1, q2, q3, q4, q5, q6⟩, gV, gT, gC, gK, gD, ⟨l1, l2⟩, gM, gU⟩ := hI
  obtain ⟨a, b, d, e, f⟩ := l1 lv (by omega)
  have tb : ∀ v, v < n → fd_tb a_dom a_savedDom (8 * lv) n v = a_savedDom (8 * lv + v) := fun v hv => by rw [fd_tb_at, if_pos hv]
  refine ⟨⟨q1, q2, q3, q4, by omega, by omega⟩, gV, gT, gC, ⟨fun c hc => gK.1 c (by omega), fun c hc => gK.2.1 c (by omega), fun v c hc hs => ?_, fun v i hv hb => ?_⟩, Or.inl ⟨rfl, fd_Good_congr (fun c hc => gK.1 c (by omega)) (fun v hv => (tb v hv).symm) d, fun v hv d' hd' => e v hv d' (by show bt (a_savedDom (8 * lv + v)) d' = true; rw [← tb v hv]; exact hd')⟩, ⟨fun l hl => ?_, fun l l' h1 h2 => l2 l l' h1 (by omega)⟩, ⟨gM.1, fun x => absurd hm x, gM.2.2⟩, ?_⟩
  · have hv := fd_Sc_lt (gK.1 c (by omega)) hs
    rw [hw v hv, b_and, gK.2.2.1 v c (by omega) hs, fd_stand _ (by omega) c (by omega), decide_eq_true hc]; rfl
  · rw [hw v hv, b_and, Bool.and_eq_true] at hb
    have hi := gK.2.2.2 v i hv hb.1
    rw [fd_stand _ (by omega) i (by omega), decide_eq_true_iff] at hb
    exact hb.2
  · obtain ⟨a', b', d', e', f'⟩ := l1 l (by omega)
    exact ⟨a', l2 l lv (by omega) (by omega), d', e', f'⟩
  · rcases gU with x | ⟨_, x, _⟩
    · exact Or.inl x
    · exact absurd hm x
end
theorem i_vc_push {k : Nat} {u : SX} {v : SY} (I : i_Rel k u v) (hk : k + 4 ≤ 2051) : wpX_push (fun r u' => wpY_push (fun r' v' => r' = r ∧ i_Rel (k + 4) u' v') v) u := by
  refine fd_el (P := fun u v => wpX_push (fun r u' => wpY_push (fun r' v' => r' = r ∧ i_Rel (k + 4) u' v') v) u) I ?_
  intro n m lv tn cn gn mv mc md f_objectiveSlot f_space f_failed f_mode f_found f_exhausted f_hasCurrent f_objective f_pending f_matched f_depth f_guided f_bounded a_dom a_watch a_order a_direction a_termA a_termV a_cellX a_kind a_relation a_constant a_first a_second a_size a_number a_scope a_savedDom a_savedConstraints a_decidedVariable a_decidedValue a_current a_work a_sums a_grown a_image a_mate a_parent a_queue a_reach a_frames a_left f_current a_made a_terms a_goal a_words a_decision a_val a_seen hI
  obtain ⟨q1, q2, q3, q4, q5, q6⟩ := hI.1
  by_cases hm : f_mode = 0
  · by_cases hf : f_failed = 0
    · refine br_t hm (br_t hf (pk_lt lv md (fun hl => ?_) (fun hl => ?_)))
      · refine fd_xopen (n := n) (lv := lv) (by omega) (by omega) ?_
        show wpY_push _ _
        unfold wpY_push
        exact fd_yg0 hm hf (br_t rfl (br_t (nI_lt hl (by omega)) (fd_ymake (n := n) (lv := lv) (by omega) (by omega) ⟨rfl, fd_mk (fd_IR_open hI hm hf hl (Or.inl ⟨rfl, rfl⟩))⟩)))
      · show wpY_push _ _
        unfold wpY_push
        exact fd_yg0 hm hf (br_t rfl (br_f (nI_nlt hl (by omega)) ⟨rfl, fd_mk hI⟩))
    · exact br_t hm (br_f hf (fd_yf_push hm hf ⟨rfl, fd_mk hI⟩))
  · exact br_f hm (fd_yb_push hm ⟨rfl, fd_mk hI⟩)
theorem i_vc_pop {k : Nat} {u : SX} {v : SY} (I : i_Rel k u v) (hk : k + 4 ≤ 2051) : wpX_pop (fun r u' => wpY_pop (fun r' v' => r' = r ∧ i_Rel (k + 4) u' v') v) u := by
  refine fd_el (P := fun u v => wpX_pop (fun r u' => wpY_pop (fun r' v' => r' = r ∧ i_Rel (k + 4) u' v') v) u) I ?_
  intro n m lv tn cn gn mv mc md f_objectiveSlot f_space f_failed f_mode f_found f_exhausted f_hasCurrent f_objective f_pending f_matched f_depth f_guided f_bounded a_dom a_watch a_order a_direction a_termA a_termV a_cellX a_kind a_relation a_constant a_first a_second a_size a_number a_scope a_savedDom a_savedConstraints a_decidedVariable a_decidedValue a_current a_work a_sums a_grown a_image a_mate a_parent a_queue a_reach a_frames a_left f_current a_made a_terms a_goal a_words a_decision a_val a_seen hI
  obtain ⟨q1, q2, q3, q4, q5, q6⟩ := hI.1
  by_cases hm : f_mode = 0
  · refine br_t hm ?_
    rcases Nat.eq_zero_or_pos lv with hl | hl
    · subst hl
      exact br_t rfl (br_t hm (br_t rfl ⟨rfl, fd_mk hI⟩))
    · obtain ⟨l, rfl⟩ : ∃ l, lv = l + 1 := ⟨lv - 1, by omega⟩
      have hz : ¬ nI (l + 1) = 0 := nI_ne0 (by omega) (by omega)
      have hs := (hI.2.2.2.2.2.2.1.1 l (by omega)).1
      refine br_f hz (fd_xback (n := n) (lv := l) (by omega) (by omega) hs (fun wt hw => ?_))
      exact br_t hm (br_f hz (fd_yback (n := n) (lv := l) (by omega) (by omega) hs ⟨rfl, fd_mk (fd_IR_back hI hm hw)⟩))
  · exact br_f hm (br_f hm ⟨rfl, fd_mk hI⟩)
end
section
/-! ===== tell, branch, refute ===== -/
theorem fd_Out_0 {n m : Nat} {G : fd_FC} {D dm0 dm1 : Nat → Int32} {r fl : Int32} {dm : Nat → Int32} (h : ∀ v, n ≤ v → dm0 v = dm1 v) (k : fd_Out n m G D dm0 r fl dm) : fd_Out n m G D dm1 r fl dm := ⟨fun v hv => by rw [k.1 v hv, h v hv], k.2⟩
/-- after narrowing one variable of a good store -/
theorem fd_hal {n m : Nat} {G : fd_FC} {wt W : Nat → Int32} {p' r k : Int32} {v : Nat} (hw : ∀ c, c < m → fd_WF n G c) (ht : fd_Wt n m G wt) (hG : fd_Good n m G W) (htot : fd_tot n W ≤ 1024) (hv : v < n) (hN : fd_Nar n wt W 0 (upd W v (W v &&& k)) p') (hr : (r = 0 ∧ (W v &&& k) = 0) ∨ (r = 1 ∧ (W v &&& k) ≠ 0)) : (r = 0 ∧ fd_Non n m G (upd W v (W v &&& k))) ∨ (r = 1 ∧ fd_Pro n m G (upd W v (W v &&& k)) (upd W v (W v &&& k)) p' ∧ fd_tot n (upd W v (W v &&& k)) ≤ 1024) := by
  rcases hr with ⟨e, z⟩ | ⟨e, z⟩
  · refine Or.inl ⟨e, fun E hE hs => ?_⟩
    obtain ⟨d, hd⟩ := fd_ne0.mp (hE.1 v hv)
    have := hs v hv d hd
    rw [pk_us, z, b_0] at this
    exact absurd this (by decide)
  · refine Or.inr ⟨e, fd_Pro_init hw ht hG hN (fun u hu => ?_), Nat.le_trans (fd_tot_mono hN.1) htot⟩
    by_cases c : u = v
    · rw [c, pk_us]; exact z
    · rw [pk_un c]; exact hG.1 u hu
section
variable {f_objectiveSlot f_maxVariables f_maxConstraints f_maxDepth f_variables f_space f_failed f_terms f_cells f_constraints f_level f_mode f_found f_exhausted f_hasCurrent f_objective f_pending : Int32} {f_matched : Int64} {f_depth f_guided f_bounded : Int32} {a_dom a_watch a_order a_direction a_termA a_termV a_cellX a_kind a_relation a_constant a_first a_second a_size a_number a_scope a_savedDom a_savedConstraints a_decidedVariable a_decidedValue a_current a_work a_sums a_grown : Nat → Int32} {a_image : Nat → Int64} {a_mate a_parent a_queue a_reach a_frames a_left : Nat → Int32} {post : Int32 → Prop}
theorem fd_xrmask {rl : Nat} {K : Int32} (hrl : rl ≤ 3) (h : ∀ mk, (∀ d, d < 32 → (bt mk d = true ↔ fd_rel rl (d : Int) K.toInt)) → post mk) : wpX_relationMask post (f_objectiveSlot, f_maxVariables, f_maxConstraints, f_maxDepth, f_variables, f_space, f_failed, f_terms, f_cells, f_constraints, f_level, f_mode, f_found, f_exhausted, f_hasCurrent, f_objective, f_pending, f_matched, f_depth, f_guided, f_bounded, a_dom, a_watch, a_order, a_direction, a_termA, a_termV, a_cellX, a_kind, a_relation, a_constant, a_first, a_second, a_size, a_number, a_scope, a_savedDom, a_savedConstraints, a_decidedVariable, a_decidedValue, a_current, a_work, a_sums, a_grown, a_image, a_mate, a_parent, a_queue, a_reach, a_frames, a_left) (nI rl) K := by
  have z0 : (0 : Int32).toInt = 0 := rfl
  have z31 : (31 : Int32).toInt = 31 := rfl
  -- a number from 0 to 31
  have num : 0 ≤ K.toInt → K.toInt ≤ 31 → ∃ k, k < 32 ∧ K = nI k ∧ K.toInt = (k : Int) := fun a b => by
    refine ⟨K.toInt.toNat, by omega, fd_ofI a, by omega⟩
  rcases (by omega : rl = 0 ∨ rl = 1 ∨ rl = 2 ∨ rl = 3) with e | e | e | e
  · subst e
    refine br_f (by decide) (br_f (by decide) ?_)
    by_cases c1 : K < 0
    · refine br_t c1 (br_t rfl (h 0 (fun d hd => ?_)))
      rw [Int32.lt_iff_toInt_lt, z0] at c1
      rw [b_0]
      exact ⟨fun x => absurd x (by decide), fun x => by have x : (d : Int) = K.toInt := x; omega⟩
    · refine br_f c1 ?_
      rw [Int32.lt_iff_toInt_lt, z0] at c1
      by_cases c2 : 31 < K
      · refine br_t c2 (br_t rfl (h 0 (fun d hd => ?_)))
        rw [Int32.lt_iff_toInt_lt, z31] at c2
        rw [b_0]
        exact ⟨fun x => absurd x (by decide), fun x => by have x : (d : Int) = K.toInt := x; omega⟩
      · refine br_f c2 (br_t rfl (h _ (fun d hd => ?_)))
        rw [Int32.lt_iff_toInt_lt, z31] at c2
        obtain ⟨k, hk, e, e2⟩ := num (by omega) (by omega)
        rw [e, fd_b1 hk, decide_eq_true_iff, ← e, e2]
        show d = k ↔ (d : Int) = k
        omega
  · subst e
    refine br_f (by decide) (br_f (by decide) ?_)
    by_cases c1 : K < 0
    · refine br_t c1 (br_f (by decide) (h _ (fun d hd => ?_)))
      rw [Int32.lt_iff_toInt_lt, z0] at c1
      rw [fd_xm _ hd, b_0]
      exact ⟨fun _ => by show (d : Int) ≠ K.toInt; omega, fun _ => rfl⟩
    · refine br_f c1 ?_
      rw [Int32.lt_iff_toInt_lt, z0] at c1
      by_cases c2 : 31 < K
      · refine br_t c2 (br_f (by decide) (h _ (fun d hd => ?_)))
        rw [Int32.lt_iff_toInt_lt, z31] at c2
        rw [fd_xm _ hd, b_0]
        exact ⟨fun _ => by show (d : Int) ≠ K.toInt; omega, fun _ => rfl⟩
      · refine br_f c2 (br_f (by decide) (h _ (fun d hd => ?_)))
        rw [Int32.lt_iff_toInt_lt, z31] at c2
        obtain ⟨k, hk, e, e2⟩ := num (by omega) (by omega)
        rw [fd_xm _ hd, e, fd_b1 hk, ← e, e2, Bool.not_eq_true', decide_eq_false_iff_not]
        show ¬ d = k ↔ (d : Int) ≠ k
        omega
  · subst e
    refine br_t (by decide) ?_
    by_cases c1 : 0 ≤ K
    · refine br_t c1 ?_
      rw [Int32.le_iff_toInt_le, z0] at c1
      by_cases c2 : K < 31
      · refine br_t c2 (h _ (fun d hd => ?_))
        rw [Int32.lt_iff_toInt_lt, z31] at c2
        obtain ⟨k, hk, e, e2⟩ := num (by omega) (by omega)
        rw [e, fd_mle k (by omega) d hd, decide_eq_true_iff, ← e, e2]
        show d ≤ k ↔ (d : Int) ≤ k
        omega
      · refine br_f c2 (h _ (fun d hd => ?_))
        rw [Int32.lt_iff_toInt_lt, z31] at c2
        rw [b_m1 d hd]
        exact ⟨fun _ => by show (d : Int) ≤ K.toInt; omega, fun _ => rfl⟩
    · refine br_f c1 (h _ (fun d hd => ?_))
      rw [Int32.le_iff_toInt_le, z0] at c1
      rw [b_0]
      exact ⟨fun x => absurd x (by decide), fun x => by have x : (d : Int) ≤ K.toInt := x; omega⟩
  · subst e
    refine br_f (by decide) (br_t (by decide) ?_)
    by_cases c1 : 0 < K
    · refine br_t c1 ?_
      rw [Int32.lt_iff_toInt_lt, z0] at c1
      by_cases c2 : K ≤ 31
      · refine br_t c2 (h _ (fun d hd => ?_))
        rw [Int32.le_iff_toInt_le, z31] at c2
        obtain ⟨k, hk, e, e2⟩ := num (by omega) (by omega)
        rw [e, fd_mge k hk d hd, decide_eq_true_iff, ← e, e2]
        show k ≤ d ↔ (k : Int) ≤ d
        omega
      · refine br_f c2 (h _ (fun d hd => ?_))
        rw [Int32.le_iff_toInt_le, z31] at c2
        rw [b_0]
        exact ⟨fun x => absurd x (by decide), fun x => by have x : K.toInt ≤ (d : Int) := x; omega⟩
    · refine br_f c1 (h _ (fun d hd => ?_))
      rw [Int32.lt_iff_toInt_lt, z0] at c1
      rw [b_m1 d hd]
      exact ⟨fun _ => by show K.toInt ≤ (d : Int); omega, fun _ => rfl⟩
end
section
variable {f_maxVariables f_maxConstraints f_maxDepth f_vars f_cons f_level f_failed f_termCount f_cellCount f_goalCount f_mode f_found f_exhausted f_current : Int32} {a_made a_dom a_order a_dir a_terms a_cells a_goal a_words a_savedDom a_savedCons a_decision a_val a_seen : Nat → Int32} {post : Int32 → SY → Prop} {n m : Nat} {G : fd_FC} {o : Nat → Nat}
theorem fd_ytell35 {w rl : Nat} {K : Int32} (hC : fd_CY n m G o f_vars f_cons a_order a_words) (hf : f_failed = 0) (hw : w < n) (hrl : rl ≤ 3) (ht : fd_tot n a_dom ≤ 1024)
    (h : ∀ r fl dm D val sn, (∀ u, u ≠ w → D u = a_dom u) → (∀ d, bt (D w) d = true ↔ (bt (a_dom w) d = true ∧ fd_rel rl (d : Int) K.toInt)) → fd_Out n m G D D r fl dm → post r (f_maxVariables, f_maxConstraints, f_maxDepth, f_vars, f_cons, f_level, fl, f_termCount, f_cellCount, f_goalCount, f_mode, f_found, f_exhausted, f_current, a_made, dm, a_order, a_dir, a_terms, a_cells, a_goal, a_words, a_savedDom, a_savedCons, a_decision, val, sn)) :
    ∀ t i, i + t = 32 → ∀ D, (∀ u, u ≠ w → D u = a_dom u) → (∀ d, bt (D w) d = true ↔ (bt (a_dom w) d = true ∧ (d < i → fd_rel rl (d : Int) K.toInt))) → ∀ q, t < q → wY_tell_35 post (nI w) (nI rl) K f_maxVariables f_maxConstraints f_maxDepth f_vars f_cons f_level f_failed f_termCount f_cellCount f_goalCount f_mode f_found f_exhausted f_current q (nI i) a_made D a_order a_dir a_terms a_cells a_goal a_words a_savedDom a_savedCons a_decision a_val a_seen := by
  have hn := hC.1
  have ew : (nI w).toNatClampNeg = w := pk_cl w
  intro t
  induction t with
  | zero =>
    intro i hi D h1 h2 q hq
    obtain ⟨q, rfl⟩ : ∃ q', q = q' + 1 := ⟨q - 1, by omega⟩
    refine pk_le 32 i (fun _ => ?_) (fun c => absurd c (by omega))
    have h2' : ∀ d, bt (D w) d = true ↔ (bt (a_dom w) d = true ∧ fd_rel rl (d : Int) K.toInt) := fun d => by
      rw [h2 d]
      exact ⟨fun x => ⟨x.1, x.2 (by have := fd_lt x.1; omega)⟩, fun x => ⟨x.1, fun _ => x.2⟩⟩
    have hsub : fd_tot n D ≤ 1024 := Nat.le_trans (fd_tot_mono (fun v d hd => by
      by_cases c : v = w
      · rw [c] at hd ⊢; exact ((h2 d).mp hd).1
      · rw [h1 v c] at hd; exact hd)) ht
    exact fd_yclose (a_dom := D) hC hf hsub (fun r fl dm val sn hO => h r fl dm D val sn h1 h2' hO)
  | succ t ih =>
    intro i hi D h1 h2 q hq
    obtain ⟨q, rfl⟩ : ∃ q', q = q' + 1 := ⟨q - 1, by omega⟩
    have e4 : (nI i).toInt = (i : Int) := nI_toInt (by omega)
    refine pk_le 32 i (fun c => absurd c (by omega)) (fun _ => fd_ytest hrl (fun hr => ?_) (fun hr => ?_))
    · rw [e4] at hr
      refine br_f (by decide) (nm_r (nI_1 i) (ih (i + 1) (by omega) D h1 (fun d => ?_) q (by omega)))
      rw [h2 d]
      constructor
      · rintro ⟨a, b⟩
        refine ⟨a, fun hd => ?_⟩
        by_cases c : d = i
        · rw [c]; exact hr
        · exact b (by omega)
      · rintro ⟨a, b⟩; exact ⟨a, fun hd => b (by omega)⟩
    · rw [e4] at hr
      rw [ew]
      refine br_t rfl ⟨fd_in8 (by omega), fd_in8 (by omega), nm_e (nm_r (nI_1 i) (ih (i + 1) (by omega) _ (fun u hu => ?_) (fun d => ?_) q (by omega)))⟩
      · rw [pk_un hu]; exact h1 u hu
      · rw [pk_us, fd_cl1 _ (by omega), Bool.and_eq_true, h2 d, Bool.not_eq_true', decide_eq_false_iff_not]
        constructor
        · rintro ⟨⟨a, b⟩, c⟩
          exact ⟨a, fun hd => b (by omega)⟩
        · rintro ⟨a, b⟩
          refine ⟨⟨a, fun hd => b (by omega)⟩, fun c => ?_⟩
          rw [c] at b
          exact hr (b (by omega))
end
section
variable {n m lv tn cn gn mv mc md : Nat} {f_space f_failed f_mode f_hasCurrent f_objective : Int32} {a_dom a_watch a_order a_direction a_termA a_termV a_cellX a_kind a_relation a_constant a_first a_second a_size a_number a_scope a_savedDom a_savedConstraints a_decidedVariable a_decidedValue a_current : Nat → Int32} {f_current : Int32} {a_made a_terms a_goal a_words a_decision : Nat → Int32}
/-- a closure done -/
theorem fd_IR_out (hI : fd_IR n m lv tn cn gn mv mc md f_space f_failed f_mode f_hasCurrent f_objective a_dom a_watch a_order a_direction a_termA a_termV a_cellX a_kind a_relation a_constant a_first a_second a_size a_number a_scope a_savedDom a_savedConstraints a_decidedVariable a_decidedValue a_current f_current a_made a_terms a_goal a_words a_decision) (hm : f_mode = 0) {D dm0 dm : Nat → Int32} {r fl : Int32} (hS : fd_Sub n D a_made) (hO : fd_Out n m (a_kind, a_relation, a_constant, a_first, a_second, a_size, a_number, a_scope) D dm0 r fl dm) : fd_IR n m lv tn cn gn mv mc md f_space fl f_mode f_hasCurrent f_objective dm a_watch a_order a_direction a_termA a_termV a_cellX a_kind a_relation a_constant a_first a_second a_size a_number a_scope a_savedDom a_savedConstraints a_decidedVariable a_decidedValue a_current f_current a_made a_terms a_goal a_words a_decision := by
  obtain ⟨gN, gV, gT, gC, gK, gD, gL, gM, gU⟩ := hI
  refine ⟨gN, gV, gT, gC, gK, ?_, gL, ⟨gM.1, fun x => absurd hm x, gM.2.2⟩, ?_⟩
  · rcases hO.2 with ⟨_, b, c⟩ | ⟨_, b, _, d⟩
    · exact Or.inl ⟨b, c.1, fd_Sub_tr c.2.1 hS⟩
    · exact Or.inr ⟨b, d⟩
  · rcases gU with x | ⟨_, x, _⟩
    · exact Or.inl x
    · exact absurd hm x
theorem fd_IR_CY (hI : fd_IR n m lv tn cn gn mv mc md f_space f_failed f_mode f_hasCurrent f_objective a_dom a_watch a_order a_direction a_termA a_termV a_cellX a_kind a_relation a_constant a_first a_second a_size a_number a_scope a_savedDom a_savedConstraints a_decidedVariable a_decidedValue a_current f_current a_made a_terms a_goal a_words a_decision) : fd_CY n m (a_kind, a_relation, a_constant, a_first, a_second, a_size, a_number, a_scope) (fd_or a_order) (nI n) (nI m) a_order a_words := by
  obtain ⟨⟨q1, q2, q3, q4, q5, q6⟩, gV, gT, gC, gK, gD, gL, gM, gU⟩ := hI
  exact ⟨by omega, by omega, rfl, rfl, gV.1, gV.2.1, gK.1, gK.2.1⟩
theorem fd_IR_D (hI : fd_IR n m lv tn cn gn mv mc md f_space f_failed f_mode f_hasCurrent f_objective a_dom a_watch a_order a_direction a_termA a_termV a_cellX a_kind a_relation a_constant a_first a_second a_size a_number a_scope a_savedDom a_savedConstraints a_decidedVariable a_decidedValue a_current f_current a_made a_terms a_goal a_words a_decision) (hf : f_failed = 0) : fd_Good n m (a_kind, a_relation, a_constant, a_first, a_second, a_size, a_number, a_scope) a_dom ∧ fd_Sub n a_dom a_made ∧ fd_tot n a_dom ≤ 1024 := by
  obtain ⟨⟨q1, q2, q3, q4, q5, q6⟩, gV, gT, gC, gK, gD, gL, gM, gU⟩ := hI
  rcases gD with ⟨_, a, b⟩ | ⟨a, _⟩
  · exact ⟨a, b, Nat.le_trans (fd_tot_sub b) gV.2.2.2.2⟩
  · rw [hf] at a; exact absurd a (by decide)
end
theorem i_vc_tell {k : Nat} {u : SX} {v : SY} (I : i_Rel k u v) (hk : k + 4 ≤ 2051) (v1 : Int32) (v2 : Int32) (v3 : Int32) : wpX_tell (fun r u' => wpY_tell (fun r' v' => r' = r ∧ i_Rel (k + 4) u' v') v v1 v2 v3) u v1 v2 v3 := by
  refine fd_el (P := fun u v => wpX_tell (fun r u' => wpY_tell (fun r' v' => r' = r ∧ i_Rel (k + 4) u' v') v v1 v2 v3) u v1 v2 v3) I ?_
  intro n m lv tn cn gn mv mc md f_objectiveSlot f_space f_failed f_mode f_found f_exhausted f_hasCurrent f_objective f_pending f_matched f_depth f_guided f_bounded a_dom a_watch a_order a_direction a_termA a_termV a_cellX a_kind a_relation a_constant a_first a_second a_size a_number a_scope a_savedDom a_savedConstraints a_decidedVariable a_decidedValue a_current a_work a_sums a_grown a_image a_mate a_parent a_queue a_reach a_frames a_left f_current a_made a_terms a_goal a_words a_decision a_val a_seen hI
  obtain ⟨q1, q2, q3, q4, q5, q6⟩ := hI.1
  have gK := hI.2.2.2.2.1
  by_cases hm : f_mode = 0
  · by_cases hf : f_failed = 0
    · obtain ⟨hG, hS, htot⟩ := fd_IR_D hI hf
      refine br_t hm (br_t hf ?_)
      rcases fd_isv v1 (n := n) (by omega) with ⟨w, hw, e⟩ | hno
      · subst e
        refine fd_xisv1 (n := n) (by omega) hw (br_f (by decide) ?_)
        rcases fd_isr v2 with ⟨rl, hrl, e⟩ | hnr
        · subst e
          refine fd_xisr1 hrl (br_f (by decide) (fd_xrmask hrl (fun mk hmk => fd_xload (n := n) (by omega) rfl (fun W hW => ?_))))
          have hGW : fd_Good n m (a_kind, a_relation, a_constant, a_first, a_second, a_size, a_number, a_scope) W := fd_Good_congr gK.1 (fun v hv => (hW v hv).symm) hG
          have htW : fd_tot n W ≤ 1024 := by rw [fd_tot_eq hW]; exact htot
          refine fd_xnar (n := n) hw (by omega) (fun r p' hN hr => ?_)
          refine fd_xsettle (n := n) (m := m) (D := upd W w (W w &&& mk)) gK.1 gK.2.2 (by omega) (by omega) rfl (fd_hal gK.1 gK.2.2 hGW htW hw hN hr) (fun r fl dm W' jm j1 j2 j3 j4 j5 j6 j7 hO => ?_)
          show wpY_tell _ _ _ _ _
          unfold wpY_tell
          refine fd_yg0 hm hf (br_t rfl (fd_yisv1 (n := n) (by omega) hw (br_f (by decide) (br_f (nI_pos (by omega)) (br_t (nI_le (b := 3) hrl (by omega)) ⟨33, ?_⟩)))))
          refine fd_ytell35 (n := n) (m := m) (fd_IR_CY hI) hf hw hrl htot (fun r' fl' dm' D val sn d1 d2 hO' => ?_) 32 0 rfl a_dom (fun _ _ => rfl) (fun d => ⟨fun x => ⟨x, fun y => absurd y (by omega)⟩, fun x => x.1⟩) 33 (by omega)
          have hDD : ∀ v, v < n → D v = upd W w (W w &&& mk) v := fun v hv => by
            by_cases c : v = w
            · subst c
              apply b_ext
              intro i hi
              have e1 : bt (D v) i = true ↔ bt (upd W v (W v &&& mk) v) i = true := by
                rw [d2 i, pk_us, b_and, Bool.and_eq_true, hW v hv, hmk i hi]
              cases x : bt (D v) i with
              | true => exact (e1.mp x).symm
              | false =>
                cases y : bt (upd W v (W v &&& mk) v) i with
                | false => rfl
                | true => rw [e1.mpr y] at x; exact absurd x (by decide)
            · rw [d1 v c, pk_un c, hW v hv]
          have hO2 := fd_Out_0 (dm1 := a_dom) (fun v hv => d1 v (by omega)) (fd_Out_D hDD hO')
          obtain ⟨e1, e2, e3⟩ := fd_Out_un hO hO2
          subst e1 e2 e3
          refine ⟨rfl, fd_mk (fd_IR_out hI hm (D := upd W w (W w &&& mk)) (dm0 := a_dom) (fun v hv d hd => hS v hv d ?_) hO2)⟩
          have := hN.1 v d hd
          rw [hW v hv] at this
          exact this
        · refine fd_xisr0 hnr (br_t rfl ?_)
          show wpY_tell _ _ _ _ _
          unfold wpY_tell
          refine fd_yg0 hm hf (br_t rfl (fd_yisv1 (n := n) (by omega) hw (br_f (by decide) ?_)))
          rcases hnr with c | c
          · exact br_t c ⟨rfl, fd_mk hI⟩
          · exact br_c (fun _ => ⟨rfl, fd_mk hI⟩) (fun _ => br_f (fun x => absurd c (Int32.not_lt.mpr x)) ⟨rfl, fd_mk hI⟩)
      · refine fd_xisv0 hno (br_t rfl ?_)
        show wpY_tell _ _ _ _ _
        unfold wpY_tell
        exact fd_yg0 hm hf (br_t rfl (fd_yisv0 hno (br_t rfl ⟨rfl, fd_mk hI⟩)))
    · exact br_t hm (br_f hf (fd_yf_tell hm hf ⟨rfl, fd_mk hI⟩))
  · exact br_f hm (fd_yb_tell hm ⟨rfl, fd_mk hI⟩)
end
section
/-! ===== branch, refute ===== -/
theorem fd_cn_lo {m : Int32} (h : m ≠ 0) : fd_cn (bt m) (fd_lo m) = 0 := fd_cn_0 (fun i hi => fd_lo_b hi)
theorem fd_cn_gr {m : Int32} (h : m ≠ 0) : fd_cn (bt m) (fd_gr m) + 1 = fd_pc m := by
  have a : fd_pc m = fd_cn (bt m) (fd_gr m + 1) := fd_cn_stay (by have := fd_gr_32 m; omega) (fun j h1 h2 => by
    cases e : bt m j with
    | false => rfl
    | true => have := fd_gr_ge e; omega)
  rw [a, fd_cn_t (fd_gr_in h)]
section
variable {f_objectiveSlot f_maxVariables f_maxConstraints f_maxDepth f_variables f_space f_failed f_terms f_cells f_constraints f_level f_mode f_found f_exhausted f_hasCurrent f_objective f_pending : Int32} {f_matched : Int64} {f_depth f_guided f_bounded : Int32} {a_dom a_watch a_order a_direction a_termA a_termV a_cellX a_kind a_relation a_constant a_first a_second a_size a_number a_scope a_savedDom a_savedConstraints a_decidedVariable a_decidedValue a_current a_work a_sums a_grown : Nat → Int32} {a_image : Nat → Int64} {a_mate a_parent a_queue a_reach a_frames a_left : Nat → Int32} {post : Int32 → Prop} {n : Nat} {o : Nat → Nat}
theorem fd_xfirst2 (hn : n ≤ 8) (hp : fd_Perm n o) (ho : ∀ p, p < n → a_order p = nI (o p)) (hne : fd_NE n a_dom) (h1 : ∀ p, p < n → (∀ q, q < p → fd_pc (a_dom (o q)) < 2) → 2 ≤ fd_pc (a_dom (o p)) → post (nI (o p))) (h0 : (∀ q, q < n → fd_pc (a_dom (o q)) < 2) → post (-1)) :
    ∀ t i, i + t = n → (∀ q, q < i → fd_pc (a_dom (o q)) < 2) → ∀ q, t < q → wX_firstOpen_2 post f_objectiveSlot f_maxVariables f_maxConstraints f_maxDepth (nI n) f_space f_failed f_terms f_cells f_constraints f_level f_mode f_found f_exhausted f_hasCurrent f_objective f_pending f_matched f_depth f_guided f_bounded a_dom a_watch a_order a_direction a_termA a_termV a_cellX a_kind a_relation a_constant a_first a_second a_size a_number a_scope a_savedDom a_savedConstraints a_decidedVariable a_decidedValue a_current a_work a_sums a_grown a_image a_mate a_parent a_queue a_reach a_frames a_left q (nI i) := by
  intro t
  induction t with
  | zero =>
    intro i hi hs q hq
    obtain ⟨q, rfl⟩ : ∃ q', q = q' + 1 := ⟨q - 1, by omega⟩
    exact pk_le n i (fun _ => h0 (fun q hq => hs q (by omega))) (fun c => absurd c (by omega))
  | succ t ih =>
    intro i hi hs q hq
    obtain ⟨q, rfl⟩ : ∃ q', q = q' + 1 := ⟨q - 1, by omega⟩
    have e : (nI i).toNatClampNeg = i := pk_cl i
    have hoi := hp.1 i (by omega)
    have e2 : (nI (o i)).toNatClampNeg = o i := pk_cl _
    refine pk_le n i (fun c => absurd c (by omega)) (fun _ => ⟨pk_in i 8 (by omega), ?_⟩)
    rw [e]
    refine nm_r (ho i (by omega)) ⟨fd_in8 (by omega), ?_⟩
    rw [e2]
    refine fd_xsingle ?_
    by_cases c : (a_dom (o i) &&& (a_dom (o i) - 1)) = 0
    · rw [if_pos c]
      refine br_f (by decide) (nm_r (nI_1 i) (ih (i + 1) (by omega) (fun q hq => ?_) q (by omega)))
      by_cases z : q = i
      · rw [z]; exact (fd_pc2 (hne _ hoi)).mp c
      · exact hs q (by omega)
    · rw [if_neg c]
      refine br_t rfl (h1 i (by omega) hs ?_)
      rcases Nat.lt_or_ge (fd_pc (a_dom (o i))) 2 with z | z
      · exact absurd ((fd_pc2 (hne _ hoi)).mpr z) c
      · exact z
theorem fd_xfirst (hn : n ≤ 8) (hp : fd_Perm n o) (ho : ∀ p, p < n → a_order p = nI (o p)) (hne : fd_NE n a_dom) (h1 : ∀ p, p < n → (∀ q, q < p → fd_pc (a_dom (o q)) < 2) → 2 ≤ fd_pc (a_dom (o p)) → post (nI (o p))) (h0 : (∀ q, q < n → fd_pc (a_dom (o q)) < 2) → post (-1)) : wpX_firstOpen post (f_objectiveSlot, f_maxVariables, f_maxConstraints, f_maxDepth, nI n, f_space, f_failed, f_terms, f_cells, f_constraints, f_level, f_mode, f_found, f_exhausted, f_hasCurrent, f_objective, f_pending, f_matched, f_depth, f_guided, f_bounded, a_dom, a_watch, a_order, a_direction, a_termA, a_termV, a_cellX, a_kind, a_relation, a_constant, a_first, a_second, a_size, a_number, a_scope, a_savedDom, a_savedConstraints, a_decidedVariable, a_decidedValue, a_current, a_work, a_sums, a_grown, a_image, a_mate, a_parent, a_queue, a_reach, a_frames, a_left) :=
  ⟨n + 1, fd_xfirst2 hn hp ho hne h1 h0 n 0 (by omega) (fun q hq => absurd hq (by omega)) _ (by omega)⟩
end
section
variable {f_maxVariables f_maxConstraints f_maxDepth f_vars f_cons f_level f_failed f_termCount f_cellCount f_goalCount f_mode f_found f_exhausted f_current : Int32} {a_made a_dom a_order a_dir a_terms a_cells a_goal a_words a_savedDom a_savedCons a_decision a_val a_seen : Nat → Int32} {post : Int32 → SY → Prop} {n : Nat} {o : Nat → Nat}
/-- Y's choice: all fixed -/
theorem fd_ybr0 (hn : n ≤ 8) (hp : fd_Perm n o) (ho : ∀ p, p < n → a_order p = nI (o p)) (hs : ∀ q, q < n → fd_pc (a_dom (o q)) < 2) (h : post (-13) (f_maxVariables, f_maxConstraints, f_maxDepth, nI n, f_cons, f_level, f_failed, f_termCount, f_cellCount, f_goalCount, f_mode, f_found, f_exhausted, f_current, a_made, a_dom, a_order, a_dir, a_terms, a_cells, a_goal, a_words, a_savedDom, a_savedCons, a_decision, a_val, a_seen)) :
    ∀ t i, i + t = n → ∀ q, t < q → wY_branch_16 post f_maxVariables f_maxConstraints f_maxDepth (nI n) f_cons f_level f_failed f_termCount f_cellCount f_goalCount f_mode f_found f_exhausted f_current a_made a_dom a_order a_dir a_terms a_cells a_goal a_words a_savedDom a_savedCons a_decision a_val a_seen q (-1) (nI i) := by
  intro t
  induction t with
  | zero =>
    intro i hi q hq
    obtain ⟨q, rfl⟩ : ∃ q', q = q' + 1 := ⟨q - 1, by omega⟩
    exact pk_le n i (fun _ => br_f (by decide) h) (fun c => absurd c (by omega))
  | succ t ih =>
    intro i hi q hq
    obtain ⟨q, rfl⟩ : ∃ q', q = q' + 1 := ⟨q - 1, by omega⟩
    have e : (nI i).toNatClampNeg = i := pk_cl i
    have hoi := hp.1 i (by omega)
    have e2 : (nI (o i)).toNatClampNeg = o i := pk_cl _
    refine pk_le n i (fun c => absurd c (by omega)) (fun _ => br_f (by decide) ⟨pk_in i 8 (by omega), ?_⟩)
    rw [e, ho i (by omega), e2]
    exact ⟨fd_in8 (by omega), fd_ysize (br_t (nI_lt (b := 2) (hs i (by omega)) (by omega)) (nm_r (nI_1 i) (ih (i + 1) (by omega) q (by omega))))⟩
/-- Y's choice: the first that isn't fixed -/
theorem fd_ybr1 {p0 : Nat} (hn : n ≤ 8) (hp : fd_Perm n o) (ho : ∀ p, p < n → a_order p = nI (o p)) (hp0 : p0 < n) (hs : ∀ q, q < p0 → fd_pc (a_dom (o q)) < 2) (h2 : 2 ≤ fd_pc (a_dom (o p0)))
    (h : ((f_level < f_maxDepth → (vp_in (nI (o p0)) 8 ∧ (((a_dir (o p0)) = 0 → (wY_branch_106 post (nI (o p0)) 0 f_maxVariables f_maxConstraints f_maxDepth (nI n) f_cons f_level f_failed f_termCount f_cellCount f_goalCount f_mode f_found f_exhausted f_current a_made a_dom a_order a_dir a_terms a_cells a_goal a_words a_savedDom a_savedCons a_decision a_val a_seen)) ∧ (¬ (a_dir (o p0)) = 0 → (vp_in (nI (o p0)) 8 ∧ (wpY_size (fun r_36 => (wY_branch_106 post (nI (o p0)) (r_36 - 1) f_maxVariables f_maxConstraints f_maxDepth (nI n) f_cons f_level f_failed f_termCount f_cellCount f_goalCount f_mode f_found f_exhausted f_current a_made a_dom a_order a_dir a_terms a_cells a_goal a_words a_savedDom a_savedCons a_decision a_val a_seen)) (f_maxVariables, f_maxConstraints, f_maxDepth, nI n, f_cons, f_level, f_failed, f_termCount, f_cellCount, f_goalCount, f_mode, f_found, f_exhausted, f_current, a_made, a_dom, a_order, a_dir, a_terms, a_cells, a_goal, a_words, a_savedDom, a_savedCons, a_decision, a_val, a_seen) (a_dom (o p0)))))))) ∧ (¬ f_level < f_maxDepth → (post (-9) (f_maxVariables, f_maxConstraints, f_maxDepth, nI n, f_cons, f_level, f_failed, f_termCount, f_cellCount, f_goalCount, f_mode, f_found, f_exhausted, f_current, a_made, a_dom, a_order, a_dir, a_terms, a_cells, a_goal, a_words, a_savedDom, a_savedCons, a_decision, a_val, a_seen))))) :
    ∀ t i, i + t = n → ∀ x : Int32, ((i ≤ p0 ∧ x = -1) ∨ (p0 < i ∧ x = nI (o p0))) → ∀ q, t < q → wY_branch_16 post f_maxVariables f_maxConstraints f_maxDepth (nI n) f_cons f_level f_failed f_termCount f_cellCount f_goalCount f_mode f_found f_exhausted f_current a_made a_dom a_order a_dir a_terms a_cells a_goal a_words a_savedDom a_savedCons a_decision a_val a_seen q x (nI i) := by
  have hop := hp.1 p0 hp0
  have eo : (nI (o p0)).toNatClampNeg = o p0 := pk_cl _
  intro t
  induction t with
  | zero =>
    intro i hi x hx q hq
    obtain ⟨q, rfl⟩ : ∃ q', q = q' + 1 := ⟨q - 1, by omega⟩
    have ex : x = nI (o p0) := hx.elim (fun z => absurd z.1 (by omega)) (fun z => z.2)
    subst ex
    refine pk_le n i (fun _ => br_t (nI_pos' (by omega)) ?_) (fun c => absurd c (by omega))
    rw [eo]
    exact h
  | succ t ih =>
    intro i hi x hx q hq
    obtain ⟨q, rfl⟩ : ∃ q', q = q' + 1 := ⟨q - 1, by omega⟩
    have e : (nI i).toNatClampNeg = i := pk_cl i
    have hoi := hp.1 i (by omega)
    have e2 : (nI (o i)).toNatClampNeg = o i := pk_cl _
    have h32 := fd_pc_le (a_dom (o i))
    refine pk_le n i (fun c => absurd c (by omega)) (fun _ => ?_)
    rcases hx with ⟨c, rfl⟩ | ⟨c, rfl⟩
    · refine br_f (by decide) ⟨pk_in i 8 (by omega), ?_⟩
      rw [e, ho i (by omega), e2]
      refine ⟨fd_in8 (by omega), fd_ysize ?_⟩
      by_cases z : i = p0
      · subst z
        exact br_f (nI_nlt (b := 2) h2 (by omega)) ⟨pk_in i 8 (by omega), nm_e (nm_r (nI_1 i) (ih (i + 1) (by omega) _ (Or.inr ⟨by omega, rfl⟩) q (by omega)))⟩
      · exact br_t (nI_lt (b := 2) (hs i (by omega)) (by omega)) (nm_r (nI_1 i) (ih (i + 1) (by omega) _ (Or.inl ⟨by omega, rfl⟩) q (by omega)))
    · exact br_t (nI_pos' (by omega)) (nm_r (nI_1 i) (ih (i + 1) (by omega) _ (Or.inr ⟨by omega, rfl⟩) q (by omega)))
end
/-- narrowing to one member -/
theorem fd_only {m : Int32} {d : Nat} (h : bt m d = true) : (m &&& ((1 : Int32) <<< (nI d &&& 31))) = (1 : Int32) <<< (nI d &&& 31) := by
  apply b_ext
  intro i _
  rw [b_and, fd_b1 (fd_lt h)]
  by_cases e : i = d
  · rw [e, h]; rfl
  · rw [decide_eq_false e, Bool.and_false]
theorem i_vc_branch {k : Nat} {u : SX} {v : SY} (I : i_Rel k u v) (hk : k + 4 ≤ 2051) : wpX_branch (fun r u' => wpY_branch (fun r' v' => r' = r ∧ i_Rel (k + 4) u' v') v) u := by
  refine fd_el (P := fun u v => wpX_branch (fun r u' => wpY_branch (fun r' v' => r' = r ∧ i_Rel (k + 4) u' v') v) u) I ?_
  intro n m lv tn cn gn mv mc md f_objectiveSlot f_space f_failed f_mode f_found f_exhausted f_hasCurrent f_objective f_pending f_matched f_depth f_guided f_bounded a_dom a_watch a_order a_direction a_termA a_termV a_cellX a_kind a_relation a_constant a_first a_second a_size a_number a_scope a_savedDom a_savedConstraints a_decidedVariable a_decidedValue a_current a_work a_sums a_grown a_image a_mate a_parent a_queue a_reach a_frames a_left f_current a_made a_terms a_goal a_words a_decision a_val a_seen hI
  obtain ⟨q1, q2, q3, q4, q5, q6⟩ := hI.1
  obtain ⟨o1, o2, o3, o4, o5⟩ := hI.2.1
  have gK := hI.2.2.2.2.1
  by_cases hm : f_mode = 0
  · by_cases hf : f_failed = 0
    · obtain ⟨hG, hS, htot⟩ := fd_IR_D hI hf
      refine br_t hm (br_t hf (fd_xfirst (n := n) (o := fd_or a_order) (by omega) o1 o2 hG.1 (fun p0 hp0 hs h2 => ?_) (fun hs => ?_)))
      · have hw := o1.1 p0 hp0
        have hne := hG.1 _ hw
        refine br_t (nI_pos' (by omega)) (pk_lt lv md (fun hl => ?_) (fun hl => ?_))
        · have ew : (nI (fd_or a_order p0)).toNatClampNeg = fd_or a_order p0 := pk_cl _
          rw [ew]
          refine ⟨fd_in8 (by omega), fd_xpref (by omega) ?_⟩
          generalize hw' : fd_or a_order p0 = w at hw hne h2 ⊢
          generalize hd' : (if a_direction w = 0 then fd_lo (a_dom w) else fd_gr (a_dom w)) = d
          have hd : bt (a_dom w) d = true := by
            rw [← hd']
            by_cases c : a_direction w = 0
            · rw [if_pos c]; exact fd_lo_in hne
            · rw [if_neg c]; exact fd_gr_in hne
          have hd32 := fd_lt hd
          have hIo := fd_IR_open hI hm hf hl (dv := nI w) (dd := nI d) (dc := nI (w * 32 + d)) (Or.inr ⟨w, d, hw, hd32, rfl, rfl, rfl⟩)
          refine fd_xopen (n := n) (lv := lv) (by omega) (by omega) (fd_xload (n := n) (by omega) rfl (fun W hW => ?_))
          have hGW : fd_Good n m (a_kind, a_relation, a_constant, a_first, a_second, a_size, a_number, a_scope) W := fd_Good_congr gK.1 (fun v hv => (hW v hv).symm) hG
          have htW : fd_tot n W ≤ 1024 := by rw [fd_tot_eq hW]; exact htot
          refine fd_xnar (n := n) hw (by omega) (fun r p' hN hr => ?_)
          refine fd_xsettle (n := n) (m := m) (D := upd W w (W w &&& ((1 : Int32) <<< (nI d &&& 31)))) gK.1 gK.2.2 (by omega) (by omega) rfl (fd_hal gK.1 gK.2.2 hGW htW hw hN hr) (fun r fl dm W' jm j1 j2 j3 j4 j5 j6 j7 hO => ?_)
          show wpY_branch _ _
          unfold wpY_branch
          -- Y's end, for the member it takes
          have fin : ∀ z : Nat, z < fd_pc (a_dom w) → (∀ d', bt (a_dom w) d' = true → fd_cn (bt (a_dom w)) d' = z → d' = d) → wY_branch_106 (fun r' v' => r' = r ∧ i_Rel (k + 4) (f_objectiveSlot, nI mv, nI mc, nI md, nI n, f_space, fl, nI tn, nI cn, nI m, nI (lv + 1), f_mode, f_found, f_exhausted, f_hasCurrent, f_objective, 0, jm, f_depth, f_guided, f_bounded, dm, a_watch, a_order, a_direction, a_termA, a_termV, a_cellX, a_kind, a_relation, a_constant, a_first, a_second, a_size, a_number, a_scope, fd_sv a_savedDom a_dom (8 * lv) n, upd a_savedConstraints lv (nI m), upd a_decidedVariable lv (nI w), upd a_decidedValue lv (nI d), a_current, W', j1, j2, j3, j4, j5, j6, j7, a_frames, a_left) v') (nI w) (nI z) (nI mv) (nI mc) (nI md) (nI n) (nI m) (nI lv) f_failed (nI tn) (nI cn) (nI gn) f_mode f_found f_exhausted f_current a_made a_dom a_order a_direction a_terms a_cellX a_goal a_words a_savedDom a_savedConstraints a_decision a_val a_seen := by
            intro z hz hzd
            have ew2 : (nI w).toNatClampNeg = w := pk_cl w
            unfold wY_branch_106
            rw [ew2]
            refine ⟨fd_in8 (by omega), fd_ykth hz (fun d' hb hc => ?_)⟩
            have e := hzd d' hb hc
            subst e
            have e5 : nI w * 32 + nI d' = nI (w * 32 + d') := by
              have : nI w * 32 = nI (w * 32) := pk_mul w 32
              rw [this, nI_add]
            rw [e5]
            refine fd_ymake (n := n) (lv := lv) (by omega) (by omega) ⟨fd_in8 (by omega), nm_e ?_⟩
            have hDD : ∀ v, v < n → upd a_dom w ((1 : Int32) <<< (nI d' &&& 31)) v = upd W w (W w &&& ((1 : Int32) <<< (nI d' &&& 31))) v := fun v hv => by
              by_cases c : v = w
              · subst c
                rw [pk_us, pk_us, hW v hv, fd_only hd]
              · rw [pk_un c, pk_un c, hW v hv]
            have htD : fd_tot n (upd a_dom w ((1 : Int32) <<< (nI d' &&& 31))) ≤ 1024 := by
              rw [fd_tot_eq hDD]; exact Nat.le_trans (fd_tot_mono hN.1) htW
            refine fd_yclose (n := n) (m := m) (G := (a_kind, a_relation, a_constant, a_first, a_second, a_size, a_number, a_scope)) (o := fd_or a_order) (fd_IR_CY hI) hf htD (fun r' fl' dm' val sn hO' => ?_)
            have hO2 := fd_Out_0 (dm1 := a_dom) (fun v hv => pk_un (by omega)) (fd_Out_D hDD hO')
            obtain ⟨e1, e2, e3⟩ := fd_Out_un hO hO2
            subst e1 e2 e3
            refine ⟨rfl, fd_mk (lv := lv + 1) (fd_IR_out hIo hm (D := upd W w (W w &&& ((1 : Int32) <<< (nI d' &&& 31)))) (dm0 := a_dom) (fun v hv d hd => hS v hv d ?_) hO2)⟩
            have := hN.1 v d hd
            rw [hW v hv] at this
            exact this
          refine fd_yg0 hm hf (br_t rfl ⟨n + 1, fd_ybr1 (n := n) (o := fd_or a_order) (p0 := p0) (by omega) o1 o2 hp0 hs (by rw [hw']; exact h2) (br_t (nI_lt hl (by omega)) ⟨?_, ?_⟩) n 0 (by omega) (-1) (Or.inl ⟨by omega, rfl⟩) _ (by omega)⟩)
          · rw [hw']; exact fd_in8 (by omega)
          · rw [hw']
            by_cases c : a_direction w = 0
            · rw [if_pos c] at hd'
              refine br_t c (fin 0 (by omega) (fun d' hb hc => ?_))
              rw [← hd']
              exact fd_cn_inj hb (fd_lo_in hne) (by rw [hc, fd_cn_lo hne])
            · rw [if_neg c] at hd'
              have h32 := fd_pc_le (a_dom w)
              have e6 : nI (fd_pc (a_dom w)) - 1 = nI (fd_pc (a_dom w) - 1) := pk_sub (b := 1) (by omega)
              refine br_f c ⟨fd_in8 (by omega), fd_ysize ?_⟩
              rw [e6]
              refine fin _ (by omega) (fun d' hb hc => ?_)
              rw [← hd']
              have := fd_cn_gr hne
              exact fd_cn_inj hb (fd_gr_in hne) (by omega)
        · show wpY_branch _ _
          unfold wpY_branch
          exact fd_yg0 hm hf (br_t rfl ⟨n + 1, fd_ybr1 (n := n) (o := fd_or a_order) (p0 := p0) (by omega) o1 o2 hp0 hs h2 (br_f (nI_nlt hl (by omega)) ⟨rfl, fd_mk hI⟩) n 0 (by omega) (-1) (Or.inl ⟨by omega, rfl⟩) _ (by omega)⟩)
      · refine br_f (by decide) ?_
        show wpY_branch _ _
        unfold wpY_branch
        exact fd_yg0 hm hf (br_t rfl ⟨n + 1, fd_ybr0 (n := n) (o := fd_or a_order) (by omega) o1 o2 hs ⟨rfl, fd_mk hI⟩ n 0 (by omega) _ (by omega)⟩)
    · exact br_t hm (br_f hf (fd_yf_branch hm hf ⟨rfl, fd_mk hI⟩))
  · exact br_f hm (fd_yb_branch hm ⟨rfl, fd_mk hI⟩)
theorem i_vc_refute {k : Nat} {u : SX} {v : SY} (I : i_Rel k u v) (hk : k + 4 ≤ 2051) : wpX_refute (fun r u' => wpY_refute (fun r' v' => r' = r ∧ i_Rel (k + 4) u' v') v) u := by
  refine fd_el (P := fun u v => wpX_refute (fun r u' => wpY_refute (fun r' v' => r' = r ∧ i_Rel (k + 4) u' v') v) u) I ?_
  intro n m lv tn cn gn mv mc md f_objectiveSlot f_space f_failed f_mode f_found f_exhausted f_hasCurrent f_objective f_pending f_matched f_depth f_guided f_bounded a_dom a_watch a_order a_direction a_termA a_termV a_cellX a_kind a_relation a_constant a_first a_second a_size a_number a_scope a_savedDom a_savedConstraints a_decidedVariable a_decidedValue a_current a_work a_sums a_grown a_image a_mate a_parent a_queue a_reach a_frames a_left f_current a_made a_terms a_goal a_words a_decision a_val a_seen hI
  obtain ⟨q1, q2, q3, q4, q5, q6⟩ := hI.1
  by_cases hm : f_mode = 0
  · refine br_t hm ?_
    rcases Nat.eq_zero_or_pos lv with hl | hl
    · subst hl
      exact br_t rfl (br_t hm (br_t rfl ⟨rfl, fd_mk hI⟩))
    · obtain ⟨l, rfl⟩ : ∃ l, lv = l + 1 := ⟨lv - 1, by omega⟩
      have hz : ¬ nI (l + 1) = 0 := nI_ne0 (by omega) (by omega)
      obtain ⟨hs, hs2, hs3, hs4, hdec⟩ := hI.2.2.2.2.2.2.1.1 l (by omega)
      have e1 : nI (l + 1) - 1 = nI l := nI_pred l
      have el : (nI l).toNatClampNeg = l := pk_cl l
      refine br_f hz ?_
      rw [e1, el]
      rcases hdec with ⟨d1, d2⟩ | ⟨w, d, hw, hd, d1, d2, d3⟩
      · refine ⟨fd_in8 (by omega), nm_r d1 ⟨fd_in8 (by omega), nm_e (br_f (by decide) (br_t hm (br_f hz ?_)))⟩⟩
        rw [e1, el]
        exact ⟨fd_in8 (by omega), nm_r d2 (br_f (by decide) ⟨rfl, fd_mk hI⟩)⟩
      · refine ⟨fd_in8 (by omega), nm_r d1 ⟨fd_in8 (by omega), nm_r d2 (br_t (nI_pos' (by omega)) (fd_xback (n := n) (lv := l) (by omega) (by omega) hs (fun wt hwt => ?_)))⟩⟩
        have hIb := fd_IR_back hI hm hwt
        have gK := hIb.2.2.2.2.1
        obtain ⟨hG, hS, htot⟩ := fd_IR_D hIb rfl
        refine fd_xload (n := n) (by omega) rfl (fun W hW => ?_)
        have hGW : fd_Good n (a_savedConstraints l).toNatClampNeg (a_kind, a_relation, a_constant, a_first, a_second, a_size, a_number, a_scope) W := fd_Good_congr gK.1 (fun v hv => (hW v hv).symm) hG
        have htW : fd_tot n W ≤ 1024 := by rw [fd_tot_eq hW]; exact htot
        refine fd_xnar (n := n) hw (by omega) (fun r p' hN hr => ?_)
        refine fd_xsettle (n := n) (m := (a_savedConstraints l).toNatClampNeg) (D := upd W w (W w &&& (((1 : Int32) <<< (nI d &&& 31)) ^^^ (-1)))) gK.1 gK.2.2 (by omega) (by omega) rfl (fd_hal gK.1 gK.2.2 hGW htW hw hN hr) (fun r fl dm W' jm j1 j2 j3 j4 j5 j6 j7 hO => ?_)
        refine br_t hm (br_f hz ?_)
        rw [e1, el]
        refine ⟨fd_in8 (by omega), nm_r d3 (br_t (nI_pos' (by omega)) (fd_yback (n := n) (lv := l) (by omega) (by omega) hs ?_))⟩
        have e32 : (32 : Int32) = nI 32 := rfl
        have ed : nI (w * 32 + d) / 32 = nI w := by
          rw [e32, pk_div (by omega) (by omega) (by omega)]
          congr 1; omega
        have er : nI (w * 32 + d) - nI (w * 32 + d) / 32 * 32 = nI d := by
          rw [e32, pk_rem (by omega) (by omega) (by omega)]
          congr 1; omega
        have ew2 : (nI w).toNatClampNeg = w := pk_cl w
        refine ⟨by decide, ?_⟩
        rw [er, ed, ew2]
        refine ⟨fd_in8 (by omega), by decide, fd_in8 (by omega), nm_e ?_⟩
        have hDD : ∀ v, v < n → upd (fd_tb a_dom a_savedDom (8 * l) n) w (fd_tb a_dom a_savedDom (8 * l) n w &&& (((1 : Int32) <<< (nI d &&& 31)) ^^^ (-1))) v = upd W w (W w &&& (((1 : Int32) <<< (nI d &&& 31)) ^^^ (-1))) v := fun v hv => by
          by_cases c : v = w
          · subst c
            rw [pk_us, pk_us, hW v hv]
          · rw [pk_un c, pk_un c, hW v hv]
        have htD : fd_tot n (upd (fd_tb a_dom a_savedDom (8 * l) n) w (fd_tb a_dom a_savedDom (8 * l) n w &&& (((1 : Int32) <<< (nI d &&& 31)) ^^^ (-1)))) ≤ 1024 := by
          rw [fd_tot_eq hDD]; exact Nat.le_trans (fd_tot_mono hN.1) htW
        refine fd_yclose (n := n) (m := (a_savedConstraints l).toNatClampNeg) (G := (a_kind, a_relation, a_constant, a_first, a_second, a_size, a_number, a_scope)) (o := fd_or a_order) (fd_IR_CY hIb) rfl htD (fun r' fl' dm' val sn hO' => ?_)
        have hO2 := fd_Out_0 (dm1 := fd_tb a_dom a_savedDom (8 * l) n) (fun v hv => pk_un (by omega)) (fd_Out_D hDD hO')
        obtain ⟨e1, e2, e3⟩ := fd_Out_un hO hO2
        subst e1 e2 e3
        refine ⟨rfl, fd_mk (m := (a_savedConstraints l).toNatClampNeg) (fd_IR_out hIb hm (D := upd W w (W w &&& (((1 : Int32) <<< (nI d &&& 31)) ^^^ (-1)))) (dm0 := fd_tb a_dom a_savedDom (8 * l) n) (fun v hv d hd => hS v hv d ?_) hO2)⟩
        have := hN.1 v d hd
        rw [hW v hv] at this
        exact this
  · exact br_f hm (br_f hm ⟨rfl, fd_mk hI⟩)
end
section
/-! ===== posting: the new slot ===== -/
def fd_AG (G G' : fd_FC) (c : Nat) : Prop := G'.1 c = G.1 c ∧ G'.2.1 c = G.2.1 c ∧ G'.2.2.1 c = G.2.2.1 c ∧ G'.2.2.2.1 c = G.2.2.2.1 c ∧ G'.2.2.2.2.1 c = G.2.2.2.2.1 c ∧ G'.2.2.2.2.2.1 c = G.2.2.2.2.2.1 c ∧
  (∀ j, j < 16 → G'.2.2.2.2.2.2.1 (16 * c + j) = G.2.2.2.2.2.2.1 (16 * c + j)) ∧ (∀ j, j < 16 → G'.2.2.2.2.2.2.2 (16 * c + j) = G.2.2.2.2.2.2.2 (16 * c + j))
section
variable {n : Nat} {G G' : fd_FC} {c : Nat}
theorem fd_AG_kd (h : fd_AG G G' c) : fd_kd G' c = fd_kd G c := h.1
theorem fd_AG_rl (h : fd_AG G G' c) : fd_rl G' c = fd_rl G c := by unfold fd_rl; rw [h.2.1]
theorem fd_AG_ct (h : fd_AG G G' c) : fd_ct G' c = fd_ct G c := by unfold fd_ct; rw [h.2.2.1]
theorem fd_AG_fi (h : fd_AG G G' c) : fd_fi G' c = fd_fi G c := by unfold fd_fi; rw [h.2.2.2.1]
theorem fd_AG_se (h : fd_AG G G' c) : fd_se G' c = fd_se G c := by unfold fd_se; rw [h.2.2.2.2.1]
theorem fd_AG_sz (h : fd_AG G G' c) : fd_sz G' c = fd_sz G c := by unfold fd_sz; rw [h.2.2.2.2.2.1]
theorem fd_AG_nu (h : fd_AG G G' c) {j : Nat} (hj : j < 16) : fd_nu G' c j = fd_nu G c j := by unfold fd_nu; rw [h.2.2.2.2.2.2.1 j hj]
theorem fd_AG_sp (h : fd_AG G G' c) {j : Nat} (hj : j < 16) : fd_sp G' c j = fd_sp G c j := by unfold fd_sp; rw [h.2.2.2.2.2.2.2 j hj]
theorem fd_AG_Tm (h : fd_AG G G' c) (t : fd_Tm n G c) : fd_Tm n G' c := by
  obtain ⟨a, b, d, e⟩ := t
  refine ⟨by rw [fd_AG_sz h]; exact a, by rw [fd_AG_sz h, h.2.2.2.2.2.1]; exact b, fun j hj => ?_, fun i j hi hj => ?_⟩
  · rw [fd_AG_sz h] at hj
    rw [fd_AG_sp h (by omega), fd_AG_nu h (by omega), h.2.2.2.2.2.2.2 j (by omega)]
    exact d j hj
  · rw [fd_AG_sz h] at hi hj
    rw [fd_AG_sp h (by omega), fd_AG_sp h (by omega)]
    exact e i j hi hj
theorem fd_AG_Li (h : fd_AG G G' c) (h8 : fd_sz G c ≤ 8) (t : fd_Li G c) : fd_Li G' c := by
  obtain ⟨a, b, d, e, f⟩ := t
  refine ⟨by rw [fd_AG_rl h, h.2.1]; exact a, by rw [fd_AG_rl h]; exact b, by rw [fd_AG_ct h]; exact d, by rw [fd_AG_ct h]; exact e, fun j hj => ?_⟩
  rw [fd_AG_sz h] at hj
  rw [fd_AG_nu h (by omega)]
  exact f j hj
theorem fd_AG_WF (h : fd_AG G G' c) (w : fd_WF n G c) : fd_WF n G' c := by
  rcases fd_kd4 w with k | k | k | k
  · obtain ⟨hT, z1, hL, z2⟩ := fd_WF1 w k
    exact Or.inl ⟨by rw [fd_AG_kd h]; exact k, fd_AG_Tm h hT, by rw [fd_AG_sz h]; exact z1, fd_AG_Li h hT.1 hL, by rw [fd_AG_rl h, fd_AG_sz h]; exact z2⟩
  · obtain ⟨hT, z1, hL, z2, f1, f2, f3⟩ := fd_WF2 w k
    refine Or.inr (Or.inl ⟨by rw [fd_AG_kd h]; exact k, fd_AG_Tm h hT, by rw [fd_AG_sz h]; exact z1, fd_AG_Li h hT.1 hL, by rw [fd_AG_sz h]; exact z2, by rw [fd_AG_fi h]; exact f1, by rw [fd_AG_fi h, h.2.2.2.1]; exact f2, fun j hj => ?_⟩)
    rw [fd_AG_sz h] at hj
    rw [fd_AG_sp h (by omega), fd_AG_fi h]; exact f3 j hj
  · obtain ⟨hT, z1⟩ := fd_WF3 w k
    exact Or.inr (Or.inr (Or.inl ⟨by rw [fd_AG_kd h]; exact k, fd_AG_Tm h hT, by rw [fd_AG_sz h]; exact z1⟩))
  · obtain ⟨w1, w2, w3, w4, w5, w6, w7, w8, w9⟩ := fd_WF4 w k
    refine Or.inr (Or.inr (Or.inr ⟨by rw [fd_AG_kd h]; exact k, by rw [fd_AG_fi h]; exact w1, by rw [fd_AG_fi h, h.2.2.2.1]; exact w2, by rw [fd_AG_se h]; exact w3, by rw [fd_AG_se h, h.2.2.2.2.1]; exact w4, by rw [fd_AG_fi h, fd_AG_se h]; exact w5, by rw [fd_AG_sz h]; exact w6, by rw [fd_AG_sz h]; exact w7, by rw [fd_AG_sz h, h.2.2.2.2.2.1]; exact w8, fun j hj => ?_⟩))
    rw [fd_AG_sz h] at hj
    rw [fd_AG_nu h (by omega)]; exact w9 j hj
theorem fd_AG_sum (h : fd_AG G G' c) (h8 : fd_sz G c ≤ 16) (a : Nat → Nat) : fd_sum G' c a = fd_sum G c a := by
  unfold fd_sum
  rw [fd_AG_sz h]
  exact fd_sm_congr (fun j hj => by show _ * _ = _ * _; rw [fd_AG_nu h (by omega), fd_AG_sp h (by omega)])
theorem fd_AG_H (h : fd_AG G G' c) (w : fd_WF n G c) {a : Nat → Nat} (hH : fd_H G c a) : fd_H G' c a := by
  rcases fd_kd4 w with k | k | k | k
  · have k' : fd_kd G' c = 1 := by rw [fd_AG_kd h]; exact k
    have h8 := (fd_WF1 w k).1.1
    rw [fd_H1 k', fd_AG_rl h, fd_AG_ct h, fd_AG_sum h (by omega)]; exact (fd_H1 k).mp hH
  · have k' : fd_kd G' c = 2 := by rw [fd_AG_kd h]; exact k
    have h8 := (fd_WF2 w k).1.1
    rw [fd_H2 k', fd_AG_rl h, fd_AG_ct h, fd_AG_fi h, fd_AG_sum h (by omega)]; exact (fd_H2 k).mp hH
  · have k' : fd_kd G' c = 3 := by rw [fd_AG_kd h]; exact k
    have h8 := (fd_WF3 w k).1.1
    rw [fd_H3 k']
    intro i j hij hj
    rw [fd_AG_sz h] at hj
    rw [fd_AG_nu h (by omega), fd_AG_nu h (by omega), fd_AG_sp h (by omega), fd_AG_sp h (by omega)]
    exact (fd_H3 k).mp hH i j hij hj
  · have k' : fd_kd G' c = 4 := by rw [fd_AG_kd h]; exact k
    have h8 := (fd_WF4 w k).2.2.2.2.2.2.1
    have hh := (fd_H4 k).mp hH
    rw [fd_H4 k', fd_AG_fi h, fd_AG_se h, fd_AG_sz h, fd_AG_nu h (by omega)]
    exact hh
theorem fd_AG_Sc (h : fd_AG G G' c) (h8 : fd_sz G c ≤ 16) {v : Nat} (hs : fd_Sc G' c v) : fd_Sc G c v := by
  rcases hs with ⟨a, b⟩ | ⟨a, j, hj, e⟩ | ⟨a, b⟩
  · rw [fd_AG_kd h] at a
    rw [fd_AG_fi h, fd_AG_se h] at b
    exact Or.inl ⟨a, b⟩
  · rw [fd_AG_kd h] at a
    rw [fd_AG_sz h] at hj
    rw [fd_AG_sp h (by omega)] at e
    exact Or.inr (Or.inl ⟨a, j, hj, e⟩)
  · rw [fd_AG_kd h] at a
    rw [fd_AG_fi h] at b
    exact Or.inr (Or.inr ⟨a, b⟩)
theorem fd_WF_sz (w : fd_WF n G c) : fd_sz G c ≤ 16 := by
  rcases fd_kd4 w with k | k | k | k
  · have := (fd_WF1 w k).1.1; omega
  · have := (fd_WF2 w k).1.1; omega
  · have := (fd_WF3 w k).1.1; omega
  · exact (fd_WF4 w k).2.2.2.2.2.2.1
theorem fd_AG_Clo (h : fd_AG G G' c) (w : fd_WF n G c) {W : Nat → Int32} (k : fd_Clo n G W c) : fd_Clo n G' W c := by
  intro v hs d hd
  obtain ⟨a, x, y, z⟩ := k v (fd_AG_Sc h (fd_WF_sz w) hs) d hd
  exact ⟨a, x, fd_AG_H h w y, z⟩
theorem fd_AG_Good (m : Nat) (h : ∀ c, c < m → fd_AG G G' c) (hw : ∀ c, c < m → fd_WF n G c) {W : Nat → Int32} (k : fd_Good n m G W) : fd_Good n m G' W := ⟨k.1, fun c hc => fd_AG_Clo (h c hc) (hw c hc) (k.2 c hc)⟩
theorem fd_AG_WD (h : fd_AG G G' c) (w : fd_WF n G c) {wd wd' : Nat → Int32} (hw : ∀ i, i < 22 → wd' (22 * c + i) = wd (22 * c + i)) (k : fd_WD G wd c) : fd_WD G' wd' c := by
  obtain ⟨d0, d1, d2, d3, d4, d5, d6, d7⟩ := k
  have w0 := hw 0 (by omega)
  rw [Nat.add_zero] at w0
  refine ⟨by rw [w0, d0, h.1], by rw [hw 1 (by omega), d1, h.2.1], by rw [hw 2 (by omega), d2, h.2.2.1], by rw [hw 3 (by omega), d3, h.2.2.2.1], by rw [hw 4 (by omega), d4, h.2.2.2.2.1], by rw [hw 5 (by omega), d5, h.2.2.2.2.2.1], fun hk j hj => ?_, fun hk j hj => ?_⟩
  · rw [fd_AG_sz h] at hj
    rw [h.1] at hk
    have h8 : fd_sz G c ≤ 8 := by
      rcases fd_kd4 w with k | k | k | k
      · exact (fd_WF1 w k).1.1
      · exact (fd_WF2 w k).1.1
      · exact (fd_WF3 w k).1.1
      · exact absurd k hk
    obtain ⟨a, b⟩ := d6 hk j hj
    have e1 := hw (6 + 2 * j) (by omega)
    have e2 := hw (6 + 2 * j + 1) (by omega)
    have f1 : 22 * c + (6 + 2 * j) = 22 * c + 6 + 2 * j := by omega
    have f2 : 22 * c + (6 + 2 * j + 1) = 22 * c + 6 + 2 * j + 1 := by omega
    rw [f1] at e1
    rw [f2] at e2
    rw [e1, e2, a, b, h.2.2.2.2.2.2.1 j (by omega), h.2.2.2.2.2.2.2 j (by omega)]
    exact ⟨rfl, rfl⟩
  · rw [fd_AG_sz h] at hj
    rw [h.1] at hk
    have h16 := fd_WF_sz w
    have a := d7 hk j hj
    have e1 := hw (6 + j) (by omega)
    have f1 : 22 * c + (6 + j) = 22 * c + 6 + j := by omega
    rw [f1] at e1
    rw [e1, a, h.2.2.2.2.2.2.1 j (by omega)]
end
section
variable {f_objectiveSlot f_maxVariables f_maxConstraints f_maxDepth f_variables f_space f_failed f_terms f_cells f_constraints f_level f_mode f_found f_exhausted f_hasCurrent f_objective f_pending : Int32} {f_matched : Int64} {f_depth f_guided f_bounded : Int32} {a_dom a_watch a_order a_direction a_termA a_termV a_cellX a_kind a_relation a_constant a_first a_second a_size a_number a_scope a_savedDom a_savedConstraints a_decidedVariable a_decidedValue a_current a_work a_sums a_grown : Nat → Int32} {a_image : Nat → Int64} {a_mate a_parent a_queue a_reach a_frames a_left : Nat → Int32} {n m : Nat}
theorem fd_xenl {post : Int32 → SX → Prop} {kd R K b r : Int32} (hm : m < 13) (h : post (nI m) (f_objectiveSlot, f_maxVariables, f_maxConstraints, f_maxDepth, f_variables, f_space, f_failed, f_terms, f_cells, nI (m + 1), f_level, f_mode, f_found, f_exhausted, f_hasCurrent, f_objective, f_pending, f_matched, f_depth, f_guided, f_bounded, a_dom, a_watch, a_order, a_direction, a_termA, a_termV, a_cellX, upd a_kind m kd, upd a_relation m R, upd a_constant m K, upd a_first m b, upd a_second m r, a_size, a_number, a_scope, a_savedDom, a_savedConstraints, a_decidedVariable, a_decidedValue, a_current, a_work, a_sums, a_grown, a_image, a_mate, a_parent, a_queue, a_reach, a_frames, a_left)) : wpX_enlist post (f_objectiveSlot, f_maxVariables, f_maxConstraints, f_maxDepth, f_variables, f_space, f_failed, f_terms, f_cells, nI m, f_level, f_mode, f_found, f_exhausted, f_hasCurrent, f_objective, f_pending, f_matched, f_depth, f_guided, f_bounded, a_dom, a_watch, a_order, a_direction, a_termA, a_termV, a_cellX, a_kind, a_relation, a_constant, a_first, a_second, a_size, a_number, a_scope, a_savedDom, a_savedConstraints, a_decidedVariable, a_decidedValue, a_current, a_work, a_sums, a_grown, a_image, a_mate, a_parent, a_queue, a_reach, a_frames, a_left) kd R K b r := by
  have e : (nI m).toNatClampNeg = m := pk_cl m
  refine ⟨pk_in m 13 hm, ?_⟩
  rw [e]
  exact nm_e ⟨pk_in m 13 hm, nm_e ⟨pk_in m 13 hm, nm_e ⟨pk_in m 13 hm, nm_e ⟨pk_in m 13 hm, nm_e (nm_r (nI_1 m) h)⟩⟩⟩⟩
theorem fd_xtt7 {post : SX → Prop} {s tn : Nat} (hs : s < 13) (ht : tn ≤ 8) (h : post (f_objectiveSlot, f_maxVariables, f_maxConstraints, f_maxDepth, f_variables, f_space, f_failed, 0, f_cells, f_constraints, f_level, f_mode, f_found, f_exhausted, f_hasCurrent, f_objective, f_pending, f_matched, f_depth, f_guided, f_bounded, a_dom, a_watch, a_order, a_direction, a_termA, a_termV, a_cellX, a_kind, a_relation, a_constant, a_first, a_second, upd a_size s (nI tn), fd_sv a_number a_termA (16 * s) tn, fd_sv a_scope a_termV (16 * s) tn, a_savedDom, a_savedConstraints, a_decidedVariable, a_decidedValue, a_current, a_work, a_sums, a_grown, a_image, a_mate, a_parent, a_queue, a_reach, a_frames, a_left)) :
    ∀ t i, i + t = tn → ∀ q, t < q → wX_takeTerms_7 post (nI s) (nI (16 * s)) f_objectiveSlot f_maxVariables f_maxConstraints f_maxDepth f_variables f_space f_failed (nI tn) f_cells f_constraints f_level f_mode f_found f_exhausted f_hasCurrent f_objective f_pending f_matched f_depth f_guided f_bounded q (nI i) a_dom a_watch a_order a_direction a_termA a_termV a_cellX a_kind a_relation a_constant a_first a_second a_size (fd_sv a_number a_termA (16 * s) i) (fd_sv a_scope a_termV (16 * s) i) a_savedDom a_savedConstraints a_decidedVariable a_decidedValue a_current a_work a_sums a_grown a_image a_mate a_parent a_queue a_reach a_frames a_left := by
  have es : (nI s).toNatClampNeg = s := pk_cl s
  intro t
  induction t with
  | zero =>
    intro i hi q hq
    obtain ⟨q, rfl⟩ : ∃ q', q = q' + 1 := ⟨q - 1, by omega⟩
    have e : i = tn := by omega
    subst e
    refine pk_le i i (fun _ => ⟨pk_in s 13 hs, ?_⟩) (fun c => absurd c (by omega))
    rw [es]
    exact nm_e h
  | succ t ih =>
    intro i hi q hq
    obtain ⟨q, rfl⟩ : ∃ q', q = q' + 1 := ⟨q - 1, by omega⟩
    have e : (nI i).toNatClampNeg = i := pk_cl i
    have e2 : (nI (16 * s + i)).toNatClampNeg = 16 * s + i := pk_cl _
    refine pk_le tn i (fun c => absurd c (by omega)) (fun _ => ⟨pk_in i 8 (by omega), ?_⟩)
    rw [nI_add, e, e2]
    exact ⟨pk_in (16 * s + i) 208 (by omega), nm_e ⟨pk_in i 8 (by omega), pk_in (16 * s + i) 208 (by omega), nm_e (nm_r (nI_1 i) (ih (i + 1) (by omega) q (by omega)))⟩⟩
theorem fd_e16 {s : Nat} : nI s * 16 = nI (16 * s) := by
  have e : nI s * 16 = nI (s * 16) := pk_mul s 16
  rw [e, Nat.mul_comm]
theorem fd_xtt {post : SX → Prop} {s tn : Nat} (hs : s < 13) (ht : tn ≤ 8) (h : post (f_objectiveSlot, f_maxVariables, f_maxConstraints, f_maxDepth, f_variables, f_space, f_failed, 0, f_cells, f_constraints, f_level, f_mode, f_found, f_exhausted, f_hasCurrent, f_objective, f_pending, f_matched, f_depth, f_guided, f_bounded, a_dom, a_watch, a_order, a_direction, a_termA, a_termV, a_cellX, a_kind, a_relation, a_constant, a_first, a_second, upd a_size s (nI tn), fd_sv a_number a_termA (16 * s) tn, fd_sv a_scope a_termV (16 * s) tn, a_savedDom, a_savedConstraints, a_decidedVariable, a_decidedValue, a_current, a_work, a_sums, a_grown, a_image, a_mate, a_parent, a_queue, a_reach, a_frames, a_left)) : wpX_takeTerms post (f_objectiveSlot, f_maxVariables, f_maxConstraints, f_maxDepth, f_variables, f_space, f_failed, nI tn, f_cells, f_constraints, f_level, f_mode, f_found, f_exhausted, f_hasCurrent, f_objective, f_pending, f_matched, f_depth, f_guided, f_bounded, a_dom, a_watch, a_order, a_direction, a_termA, a_termV, a_cellX, a_kind, a_relation, a_constant, a_first, a_second, a_size, a_number, a_scope, a_savedDom, a_savedConstraints, a_decidedVariable, a_decidedValue, a_current, a_work, a_sums, a_grown, a_image, a_mate, a_parent, a_queue, a_reach, a_frames, a_left) (nI s) :=
  nm_r fd_e16 ⟨tn + 1, fd_xtt7 hs ht h tn 0 (by omega) _ (by omega)⟩
theorem fd_xtc7 {post : SX → Prop} {s cn : Nat} (hs : s < 13) (ht : cn ≤ 16) (h : post (f_objectiveSlot, f_maxVariables, f_maxConstraints, f_maxDepth, f_variables, f_space, f_failed, f_terms, 0, f_constraints, f_level, f_mode, f_found, f_exhausted, f_hasCurrent, f_objective, f_pending, f_matched, f_depth, f_guided, f_bounded, a_dom, a_watch, a_order, a_direction, a_termA, a_termV, a_cellX, a_kind, a_relation, a_constant, a_first, a_second, upd a_size s (nI cn), fd_sv a_number a_cellX (16 * s) cn, a_scope, a_savedDom, a_savedConstraints, a_decidedVariable, a_decidedValue, a_current, a_work, a_sums, a_grown, a_image, a_mate, a_parent, a_queue, a_reach, a_frames, a_left)) :
    ∀ t i, i + t = cn → ∀ q, t < q → wX_takeCells_7 post (nI s) (nI (16 * s)) f_objectiveSlot f_maxVariables f_maxConstraints f_maxDepth f_variables f_space f_failed f_terms (nI cn) f_constraints f_level f_mode f_found f_exhausted f_hasCurrent f_objective f_pending f_matched f_depth f_guided f_bounded q (nI i) a_dom a_watch a_order a_direction a_termA a_termV a_cellX a_kind a_relation a_constant a_first a_second a_size (fd_sv a_number a_cellX (16 * s) i) a_scope a_savedDom a_savedConstraints a_decidedVariable a_decidedValue a_current a_work a_sums a_grown a_image a_mate a_parent a_queue a_reach a_frames a_left := by
  have es : (nI s).toNatClampNeg = s := pk_cl s
  intro t
  induction t with
  | zero =>
    intro i hi q hq
    obtain ⟨q, rfl⟩ : ∃ q', q = q' + 1 := ⟨q - 1, by omega⟩
    have e : i = cn := by omega
    subst e
    refine pk_le i i (fun _ => ⟨pk_in s 13 hs, ?_⟩) (fun c => absurd c (by omega))
    rw [es]
    exact nm_e h
  | succ t ih =>
    intro i hi q hq
    obtain ⟨q, rfl⟩ : ∃ q', q = q' + 1 := ⟨q - 1, by omega⟩
    have e : (nI i).toNatClampNeg = i := pk_cl i
    have e2 : (nI (16 * s + i)).toNatClampNeg = 16 * s + i := pk_cl _
    refine pk_le cn i (fun c => absurd c (by omega)) (fun _ => ⟨pk_in i 16 (by omega), ?_⟩)
    rw [nI_add, e, e2]
    exact ⟨pk_in (16 * s + i) 208 (by omega), nm_e (nm_r (nI_1 i) (ih (i + 1) (by omega) q (by omega)))⟩
theorem fd_xtc {post : SX → Prop} {s cn : Nat} (hs : s < 13) (ht : cn ≤ 16) (h : post (f_objectiveSlot, f_maxVariables, f_maxConstraints, f_maxDepth, f_variables, f_space, f_failed, f_terms, 0, f_constraints, f_level, f_mode, f_found, f_exhausted, f_hasCurrent, f_objective, f_pending, f_matched, f_depth, f_guided, f_bounded, a_dom, a_watch, a_order, a_direction, a_termA, a_termV, a_cellX, a_kind, a_relation, a_constant, a_first, a_second, upd a_size s (nI cn), fd_sv a_number a_cellX (16 * s) cn, a_scope, a_savedDom, a_savedConstraints, a_decidedVariable, a_decidedValue, a_current, a_work, a_sums, a_grown, a_image, a_mate, a_parent, a_queue, a_reach, a_frames, a_left)) : wpX_takeCells post (f_objectiveSlot, f_maxVariables, f_maxConstraints, f_maxDepth, f_variables, f_space, f_failed, f_terms, nI cn, f_constraints, f_level, f_mode, f_found, f_exhausted, f_hasCurrent, f_objective, f_pending, f_matched, f_depth, f_guided, f_bounded, a_dom, a_watch, a_order, a_direction, a_termA, a_termV, a_cellX, a_kind, a_relation, a_constant, a_first, a_second, a_size, a_number, a_scope, a_savedDom, a_savedConstraints, a_decidedVariable, a_decidedValue, a_current, a_work, a_sums, a_grown, a_image, a_mate, a_parent, a_queue, a_reach, a_frames, a_left) (nI s) :=
  nm_r fd_e16 ⟨cn + 1, fd_xtc7 hs ht h cn 0 (by omega) _ (by omega)⟩
theorem fd_xwt7 {post : SX → Prop} {s tn : Nat} {V : Nat → Nat} (hs : s < 13) (ht : tn ≤ 8) (hsz : a_size s = nI tn) (hsc : ∀ j, j < tn → a_scope (16 * s + j) = nI (V j) ∧ V j < 8) (h : ∀ wt, (∀ v i, bt (wt v) i = true ↔ (bt (a_watch v) i = true ∨ (i = s ∧ ∃ j, j < tn ∧ V j = v))) → post (f_objectiveSlot, f_maxVariables, f_maxConstraints, f_maxDepth, f_variables, f_space, f_failed, f_terms, f_cells, f_constraints, f_level, f_mode, f_found, f_exhausted, f_hasCurrent, f_objective, f_pending, f_matched, f_depth, f_guided, f_bounded, a_dom, wt, a_order, a_direction, a_termA, a_termV, a_cellX, a_kind, a_relation, a_constant, a_first, a_second, a_size, a_number, a_scope, a_savedDom, a_savedConstraints, a_decidedVariable, a_decidedValue, a_current, a_work, a_sums, a_grown, a_image, a_mate, a_parent, a_queue, a_reach, a_frames, a_left)) :
    ∀ t k, k + t = tn → ∀ wt, (∀ v i, bt (wt v) i = true ↔ (bt (a_watch v) i = true ∨ (i = s ∧ ∃ j, j < k ∧ V j = v))) → ∀ q, t < q → wX_watchTerms_7 post (nI s) (nI (16 * s)) f_objectiveSlot f_maxVariables f_maxConstraints f_maxDepth f_variables f_space f_failed f_terms f_cells f_constraints f_level f_mode f_found f_exhausted f_hasCurrent f_objective f_pending f_matched f_depth f_guided f_bounded q (nI k) a_dom wt a_order a_direction a_termA a_termV a_cellX a_kind a_relation a_constant a_first a_second a_size a_number a_scope a_savedDom a_savedConstraints a_decidedVariable a_decidedValue a_current a_work a_sums a_grown a_image a_mate a_parent a_queue a_reach a_frames a_left := by
  have es : (nI s).toNatClampNeg = s := pk_cl s
  intro t
  induction t with
  | zero =>
    intro k hk wt hw q hq
    obtain ⟨q, rfl⟩ : ∃ q', q = q' + 1 := ⟨q - 1, by omega⟩
    have e : k = tn := by omega
    subst e
    refine ⟨pk_in s 13 hs, ?_⟩
    rw [es, hsz]
    exact pk_le k k (fun _ => h wt hw) (fun c => absurd c (by omega))
  | succ t ih =>
    intro k hk wt hw q hq
    obtain ⟨q, rfl⟩ : ∃ q', q = q' + 1 := ⟨q - 1, by omega⟩
    obtain ⟨s1, s2⟩ := hsc k (by omega)
    have e2 : (nI (16 * s + k)).toNatClampNeg = 16 * s + k := pk_cl _
    have e3 : (nI (V k)).toNatClampNeg = V k := pk_cl _
    refine ⟨pk_in s 13 hs, ?_⟩
    rw [es, hsz]
    refine pk_le tn k (fun c => absurd c (by omega)) (fun _ => ?_)
    rw [nI_add, e2, s1, e3]
    refine ⟨pk_in (16 * s + k) 208 (by omega), fd_in8 s2, fd_in8 s2, nm_e (nm_r (nI_1 k) (ih (k + 1) (by omega) _ (fun v i => ?_) q (by omega)))⟩
    by_cases c : v = V k
    · rw [c, pk_us, fd_or1 _ (by omega), Bool.or_eq_true, decide_eq_true_iff, hw (V k) i]
      constructor
      · rintro ((a | ⟨a, j, b, d⟩) | a)
        · exact Or.inl a
        · exact Or.inr ⟨a, j, by omega, d⟩
        · exact Or.inr ⟨a, k, by omega, rfl⟩
      · rintro (a | ⟨a, _⟩)
        · exact Or.inl (Or.inl a)
        · exact Or.inr a
    · rw [pk_un c, hw v i]
      constructor
      · rintro (a | ⟨a, j, b, d⟩)
        · exact Or.inl a
        · exact Or.inr ⟨a, j, by omega, d⟩
      · rintro (a | ⟨a, j, b, d⟩)
        · exact Or.inl a
        · by_cases z : j = k
          · rw [z] at d; exact absurd d.symm c
          · exact Or.inr ⟨a, j, by omega, d⟩
theorem fd_xwt {post : SX → Prop} {s tn : Nat} {V : Nat → Nat} (hs : s < 13) (ht : tn ≤ 8) (hsz : a_size s = nI tn) (hsc : ∀ j, j < tn → a_scope (16 * s + j) = nI (V j) ∧ V j < 8) (h : ∀ wt, (∀ v i, bt (wt v) i = true ↔ (bt (a_watch v) i = true ∨ (i = s ∧ ∃ j, j < tn ∧ V j = v))) → post (f_objectiveSlot, f_maxVariables, f_maxConstraints, f_maxDepth, f_variables, f_space, f_failed, f_terms, f_cells, f_constraints, f_level, f_mode, f_found, f_exhausted, f_hasCurrent, f_objective, f_pending, f_matched, f_depth, f_guided, f_bounded, a_dom, wt, a_order, a_direction, a_termA, a_termV, a_cellX, a_kind, a_relation, a_constant, a_first, a_second, a_size, a_number, a_scope, a_savedDom, a_savedConstraints, a_decidedVariable, a_decidedValue, a_current, a_work, a_sums, a_grown, a_image, a_mate, a_parent, a_queue, a_reach, a_frames, a_left)) : wpX_watchTerms post (f_objectiveSlot, f_maxVariables, f_maxConstraints, f_maxDepth, f_variables, f_space, f_failed, f_terms, f_cells, f_constraints, f_level, f_mode, f_found, f_exhausted, f_hasCurrent, f_objective, f_pending, f_matched, f_depth, f_guided, f_bounded, a_dom, a_watch, a_order, a_direction, a_termA, a_termV, a_cellX, a_kind, a_relation, a_constant, a_first, a_second, a_size, a_number, a_scope, a_savedDom, a_savedConstraints, a_decidedVariable, a_decidedValue, a_current, a_work, a_sums, a_grown, a_image, a_mate, a_parent, a_queue, a_reach, a_frames, a_left) (nI s) :=
  nm_r fd_e16 ⟨tn + 1, fd_xwt7 hs ht hsz hsc h tn 0 (by omega) a_watch (fun v i => ⟨Or.inl, fun z => z.elim id (fun ⟨_, j, hj, _⟩ => absurd hj (by omega))⟩) _ (by omega)⟩
theorem fd_xclosep {post : Int32 → SX → Prop} (hn : n ≤ 8) (hm : m + 1 ≤ 12) (hv : f_variables = nI n) (hw : ∀ c, c < m + 1 → fd_WF n (a_kind, a_relation, a_constant, a_first, a_second, a_size, a_number, a_scope) c) (ht : fd_Wt n (m + 1) (a_kind, a_relation, a_constant, a_first, a_second, a_size, a_number, a_scope) a_watch) (hG : fd_Good n m (a_kind, a_relation, a_constant, a_first, a_second, a_size, a_number, a_scope) a_dom) (htot : fd_tot n a_dom ≤ 1024)
    (h : ∀ r fl dm W' (jm : Int64) (j1 j2 : Nat → Int32) (j3 : Nat → Int64) (j4 j5 j6 j7 : Nat → Int32), fd_Out n (m + 1) (a_kind, a_relation, a_constant, a_first, a_second, a_size, a_number, a_scope) a_dom a_dom r fl dm → post r (f_objectiveSlot, f_maxVariables, f_maxConstraints, f_maxDepth, f_variables, f_space, fl, f_terms, f_cells, f_constraints, f_level, f_mode, f_found, f_exhausted, f_hasCurrent, f_objective, 0, jm, f_depth, f_guided, f_bounded, dm, a_watch, a_order, a_direction, a_termA, a_termV, a_cellX, a_kind, a_relation, a_constant, a_first, a_second, a_size, a_number, a_scope, a_savedDom, a_savedConstraints, a_decidedVariable, a_decidedValue, a_current, W', j1, j2, j3, j4, j5, j6, j7, a_frames, a_left)) : wpX_closePosted post (f_objectiveSlot, f_maxVariables, f_maxConstraints, f_maxDepth, f_variables, f_space, f_failed, f_terms, f_cells, f_constraints, f_level, f_mode, f_found, f_exhausted, f_hasCurrent, f_objective, f_pending, f_matched, f_depth, f_guided, f_bounded, a_dom, a_watch, a_order, a_direction, a_termA, a_termV, a_cellX, a_kind, a_relation, a_constant, a_first, a_second, a_size, a_number, a_scope, a_savedDom, a_savedConstraints, a_decidedVariable, a_decidedValue, a_current, a_work, a_sums, a_grown, a_image, a_mate, a_parent, a_queue, a_reach, a_frames, a_left) (nI m) := by
  refine fd_xload (n := n) hn hv (fun W hW => nm_e ?_)
  have hGW : fd_Good n m (a_kind, a_relation, a_constant, a_first, a_second, a_size, a_number, a_scope) W := fd_Good_congr (fun c hc => hw c (by omega)) (fun v hv => (hW v hv).symm) hG
  refine fd_xsettle (n := n) (m := m + 1) (D := W) hw ht hn hm hv (Or.inr ⟨rfl, ⟨hGW.1, fun c hc hb => ?_, fun i hi => ?_, fd_Sub_rf, fun _ _ z => z⟩, by rw [fd_tot_eq hW]; exact htot⟩) (fun r fl dm W' jm j1 j2 j3 j4 j5 j6 j7 hO => h r fl dm W' jm j1 j2 j3 j4 j5 j6 j7 (fd_Out_D hW hO))
  · refine hGW.2 c ?_
    rw [fd_b1 (by omega), decide_eq_false_iff_not] at hb
    omega
  · rw [fd_b1 (by omega), decide_eq_true_iff] at hi
    omega
end
/-! the words of the new constraint -/
def fd_w6 (wd : Nat → Int32) (m : Nat) (a b c d e f : Int32) : Nat → Int32 := upd (upd (upd (upd (upd (upd wd (22 * m) a) (22 * m + 1) b) (22 * m + 2) c) (22 * m + 3) d) (22 * m + 4) e) (22 * m + 5) f
theorem fd_w6_0 {wd : Nat → Int32} {m : Nat} {a b c d e f : Int32} : fd_w6 wd m a b c d e f (22 * m) = a ∧ fd_w6 wd m a b c d e f (22 * m + 1) = b ∧ fd_w6 wd m a b c d e f (22 * m + 2) = c ∧ fd_w6 wd m a b c d e f (22 * m + 3) = d ∧ fd_w6 wd m a b c d e f (22 * m + 4) = e ∧ fd_w6 wd m a b c d e f (22 * m + 5) = f := by
  unfold fd_w6
  refine ⟨?_, ?_, ?_, ?_, ?_, pk_us⟩
  · rw [pk_un (by omega), pk_un (by omega), pk_un (by omega), pk_un (by omega), pk_un (by omega), pk_us]
  · rw [pk_un (by omega), pk_un (by omega), pk_un (by omega), pk_un (by omega), pk_us]
  · rw [pk_un (by omega), pk_un (by omega), pk_un (by omega), pk_us]
  · rw [pk_un (by omega), pk_un (by omega), pk_us]
  · rw [pk_un (by omega), pk_us]
theorem fd_w6_n {wd : Nat → Int32} {m : Nat} {a b c d e f : Int32} {j : Nat} (h : j < 22 * m) : fd_w6 wd m a b c d e f j = wd j := by
  unfold fd_w6
  rw [pk_un (by omega), pk_un (by omega), pk_un (by omega), pk_un (by omega), pk_un (by omega), pk_un (by omega)]
section
variable {f_maxVariables f_maxConstraints f_maxDepth f_vars f_cons f_level f_failed f_termCount f_cellCount f_goalCount f_mode f_found f_exhausted f_current : Int32} {a_made a_dom a_order a_dir a_terms a_cells a_goal a_words a_savedDom a_savedCons a_decision a_val a_seen : Nat → Int32} {post : Int32 → SY → Prop} {n m : Nat} {G : fd_FC} {o : Nat → Nat}
theorem fd_yadd139 {tn : Nat} {w : Nat → Int32} (hm : m < 12) (ht : tn ≤ 8) (hf : f_failed = 0) (htot : fd_tot n a_dom ≤ 1024) (hC : fd_CY n (m + 1) G o f_vars (nI (m + 1)) a_order (fd_sv w a_terms (22 * m + 6) (2 * tn)))
    (h : ∀ r fl dm val sn, fd_Out n (m + 1) G a_dom a_dom r fl dm → post r (f_maxVariables, f_maxConstraints, f_maxDepth, f_vars, nI (m + 1), f_level, fl, 0, f_cellCount, f_goalCount, f_mode, f_found, f_exhausted, f_current, a_made, dm, a_order, a_dir, a_terms, a_cells, a_goal, fd_sv w a_terms (22 * m + 6) (2 * tn), a_savedDom, a_savedCons, a_decision, val, sn)) :
    ∀ t i, i + t = 2 * tn → ∀ q, t < q → wY_addConstraint_139 post (nI (22 * m)) f_maxVariables f_maxConstraints f_maxDepth f_vars (nI m) f_level f_failed (nI tn) f_cellCount f_goalCount f_mode f_found f_exhausted f_current q (nI i) a_made a_dom a_order a_dir a_terms a_cells a_goal (fd_sv w a_terms (22 * m + 6) i) a_savedDom a_savedCons a_decision a_val a_seen := by
  have i1 : 2 * nI tn = nI (2 * tn) := pk_mul 2 tn
  have e6 : nI (22 * m) + 6 = nI (22 * m + 6) := nI_add _ 6
  intro t
  induction t with
  | zero =>
    intro i hi q hq
    obtain ⟨q, rfl⟩ : ∃ q', q = q' + 1 := ⟨q - 1, by omega⟩
    have e : i = 2 * tn := by omega
    subst e
    refine pk_le (2 * tn) (2 * tn) (fun _ => ?_) (fun c => absurd c (by omega)) (hx := i1)
    refine nm_r (nI_1 m) ?_
    exact fd_yclose hC hf htot h
  | succ t ih =>
    intro i hi q hq
    obtain ⟨q, rfl⟩ : ∃ q', q = q' + 1 := ⟨q - 1, by omega⟩
    have e : (nI i).toNatClampNeg = i := pk_cl i
    have e2 : (nI (22 * m + 6 + i)).toNatClampNeg = 22 * m + 6 + i := pk_cl _
    refine pk_le (2 * tn) i (fun c => absurd c (by omega)) (fun _ => ⟨pk_in i 16 (by omega), ?_⟩) (hx := i1)
    rw [e6, nI_add, e, e2]
    exact ⟨pk_in (22 * m + 6 + i) 264 (by omega), nm_e (nm_r (nI_1 i) (ih (i + 1) (by omega) q (by omega)))⟩
theorem fd_yadd80 {cn : Nat} {w : Nat → Int32} (hm : m < 12) (ht : cn ≤ 16) (hf : f_failed = 0) (htot : fd_tot n a_dom ≤ 1024) (hC : fd_CY n (m + 1) G o f_vars (nI (m + 1)) a_order (fd_sv w a_cells (22 * m + 6) cn))
    (h : ∀ r fl dm val sn, fd_Out n (m + 1) G a_dom a_dom r fl dm → post r (f_maxVariables, f_maxConstraints, f_maxDepth, f_vars, nI (m + 1), f_level, fl, f_termCount, 0, f_goalCount, f_mode, f_found, f_exhausted, f_current, a_made, dm, a_order, a_dir, a_terms, a_cells, a_goal, fd_sv w a_cells (22 * m + 6) cn, a_savedDom, a_savedCons, a_decision, val, sn)) :
    ∀ t i, i + t = cn → ∀ q, t < q → wY_addConstraint_80 post (nI (22 * m)) f_maxVariables f_maxConstraints f_maxDepth f_vars (nI m) f_level f_failed f_termCount (nI cn) f_goalCount f_mode f_found f_exhausted f_current q (nI i) a_made a_dom a_order a_dir a_terms a_cells a_goal (fd_sv w a_cells (22 * m + 6) i) a_savedDom a_savedCons a_decision a_val a_seen := by
  have e6 : nI (22 * m) + 6 = nI (22 * m + 6) := nI_add _ 6
  intro t
  induction t with
  | zero =>
    intro i hi q hq
    obtain ⟨q, rfl⟩ : ∃ q', q = q' + 1 := ⟨q - 1, by omega⟩
    have e : i = cn := by omega
    subst e
    refine pk_le i i (fun _ => ?_) (fun c => absurd c (by omega))
    refine nm_r (nI_1 m) ?_
    exact fd_yclose hC hf htot h
  | succ t ih =>
    intro i hi q hq
    obtain ⟨q, rfl⟩ : ∃ q', q = q' + 1 := ⟨q - 1, by omega⟩
    have e : (nI i).toNatClampNeg = i := pk_cl i
    have e2 : (nI (22 * m + 6 + i)).toNatClampNeg = 22 * m + 6 + i := pk_cl _
    refine pk_le cn i (fun c => absurd c (by omega)) (fun _ => ⟨pk_in i 16 (by omega), ?_⟩)
    rw [e6, nI_add, e, e2]
    exact ⟨pk_in (22 * m + 6 + i) 264 (by omega), nm_e (nm_r (nI_1 i) (ih (i + 1) (by omega) q (by omega)))⟩
theorem fd_yadd {tn : Nat} {kd R K b r : Int32} (hkd : ¬ kd = 4) (hm : m < 12) (ht : tn ≤ 8) (hf : f_failed = 0) (htot : fd_tot n a_dom ≤ 1024) (hC : fd_CY n (m + 1) G o f_vars (nI (m + 1)) a_order (fd_sv (fd_w6 a_words m kd R K b r (nI tn)) a_terms (22 * m + 6) (2 * tn)))
    (h : ∀ r' fl dm val sn, fd_Out n (m + 1) G a_dom a_dom r' fl dm → post r' (f_maxVariables, f_maxConstraints, f_maxDepth, f_vars, nI (m + 1), f_level, fl, 0, f_cellCount, f_goalCount, f_mode, f_found, f_exhausted, f_current, a_made, dm, a_order, a_dir, a_terms, a_cells, a_goal, fd_sv (fd_w6 a_words m kd R K b r (nI tn)) a_terms (22 * m + 6) (2 * tn), a_savedDom, a_savedCons, a_decision, val, sn)) : wpY_addConstraint post (f_maxVariables, f_maxConstraints, f_maxDepth, f_vars, nI m, f_level, f_failed, nI tn, f_cellCount, f_goalCount, f_mode, f_found, f_exhausted, f_current, a_made, a_dom, a_order, a_dir, a_terms, a_cells, a_goal, a_words, a_savedDom, a_savedCons, a_decision, a_val, a_seen) kd R K b r := by
  have e0 : nI m * 22 = nI (22 * m) := by
    have e : nI m * 22 = nI (m * 22) := pk_mul m 22
    rw [e, Nat.mul_comm]
  have e1 : nI (22 * m) + 1 = nI (22 * m + 1) := nI_1 _
  have e2 : nI (22 * m) + 2 = nI (22 * m + 2) := nI_add _ 2
  have e3 : nI (22 * m) + 3 = nI (22 * m + 3) := nI_add _ 3
  have e4 : nI (22 * m) + 4 = nI (22 * m + 4) := nI_add _ 4
  have e5 : nI (22 * m) + 5 = nI (22 * m + 5) := nI_add _ 5
  have c0 : (nI (22 * m)).toNatClampNeg = 22 * m := pk_cl _
  have c1 : (nI (22 * m + 1)).toNatClampNeg = 22 * m + 1 := pk_cl _
  have c2 : (nI (22 * m + 2)).toNatClampNeg = 22 * m + 2 := pk_cl _
  have c3 : (nI (22 * m + 3)).toNatClampNeg = 22 * m + 3 := pk_cl _
  have c4 : (nI (22 * m + 4)).toNatClampNeg = 22 * m + 4 := pk_cl _
  have c5 : (nI (22 * m + 5)).toNatClampNeg = 22 * m + 5 := pk_cl _
  refine nm_r e0 ⟨pk_in (22 * m) 264 (by omega), ?_⟩
  rw [e1, e2, e3, e4, e5, c0, c1, c2, c3, c4, c5]
  exact nm_e ⟨pk_in (22 * m + 1) 264 (by omega), nm_e ⟨pk_in (22 * m + 2) 264 (by omega), nm_e ⟨pk_in (22 * m + 3) 264 (by omega), nm_e ⟨pk_in (22 * m + 4) 264 (by omega), nm_e (br_f hkd ⟨pk_in (22 * m + 5) 264 (by omega), nm_e ⟨2 * tn + 1, fd_yadd139 (w := fd_w6 a_words m kd R K b r (nI tn)) hm ht hf htot hC h (2 * tn) 0 (by omega) _ (by omega)⟩⟩)⟩⟩⟩⟩
theorem fd_yaddE {cn : Nat} {R K b r : Int32} (hm : m < 12) (ht : cn ≤ 16) (hf : f_failed = 0) (htot : fd_tot n a_dom ≤ 1024) (hC : fd_CY n (m + 1) G o f_vars (nI (m + 1)) a_order (fd_sv (fd_w6 a_words m 4 R K b r (nI cn)) a_cells (22 * m + 6) cn))
    (h : ∀ r' fl dm val sn, fd_Out n (m + 1) G a_dom a_dom r' fl dm → post r' (f_maxVariables, f_maxConstraints, f_maxDepth, f_vars, nI (m + 1), f_level, fl, f_termCount, 0, f_goalCount, f_mode, f_found, f_exhausted, f_current, a_made, dm, a_order, a_dir, a_terms, a_cells, a_goal, fd_sv (fd_w6 a_words m 4 R K b r (nI cn)) a_cells (22 * m + 6) cn, a_savedDom, a_savedCons, a_decision, val, sn)) : wpY_addConstraint post (f_maxVariables, f_maxConstraints, f_maxDepth, f_vars, nI m, f_level, f_failed, f_termCount, nI cn, f_goalCount, f_mode, f_found, f_exhausted, f_current, a_made, a_dom, a_order, a_dir, a_terms, a_cells, a_goal, a_words, a_savedDom, a_savedCons, a_decision, a_val, a_seen) 4 R K b r := by
  have e0 : nI m * 22 = nI (22 * m) := by
    have e : nI m * 22 = nI (m * 22) := pk_mul m 22
    rw [e, Nat.mul_comm]
  have e1 : nI (22 * m) + 1 = nI (22 * m + 1) := nI_1 _
  have e2 : nI (22 * m) + 2 = nI (22 * m + 2) := nI_add _ 2
  have e3 : nI (22 * m) + 3 = nI (22 * m + 3) := nI_add _ 3
  have e4 : nI (22 * m) + 4 = nI (22 * m + 4) := nI_add _ 4
  have e5 : nI (22 * m) + 5 = nI (22 * m + 5) := nI_add _ 5
  have c0 : (nI (22 * m)).toNatClampNeg = 22 * m := pk_cl _
  have c1 : (nI (22 * m + 1)).toNatClampNeg = 22 * m + 1 := pk_cl _
  have c2 : (nI (22 * m + 2)).toNatClampNeg = 22 * m + 2 := pk_cl _
  have c3 : (nI (22 * m + 3)).toNatClampNeg = 22 * m + 3 := pk_cl _
  have c4 : (nI (22 * m + 4)).toNatClampNeg = 22 * m + 4 := pk_cl _
  have c5 : (nI (22 * m + 5)).toNatClampNeg = 22 * m + 5 := pk_cl _
  refine nm_r e0 ⟨pk_in (22 * m) 264 (by omega), ?_⟩
  rw [e1, e2, e3, e4, e5, c0, c1, c2, c3, c4, c5]
  exact nm_e ⟨pk_in (22 * m + 1) 264 (by omega), nm_e ⟨pk_in (22 * m + 2) 264 (by omega), nm_e ⟨pk_in (22 * m + 3) 264 (by omega), nm_e ⟨pk_in (22 * m + 4) 264 (by omega), nm_e (br_t rfl ⟨pk_in (22 * m + 5) 264 (by omega), nm_e ⟨cn + 1, fd_yadd80 (w := fd_w6 a_words m 4 R K b r (nI cn)) hm ht hf htot hC h cn 0 (by omega) _ (by omega)⟩⟩)⟩⟩⟩⟩
end
end
section
/-! ===== postLinear, postReified, postAllDifferent, postElement ===== -/
section
variable {n m lv tn cn gn mv mc md : Nat} {f_space f_failed f_mode f_hasCurrent f_objective : Int32} {a_dom a_watch a_order a_direction a_termA a_termV a_cellX a_kind a_relation a_constant a_first a_second a_size a_number a_scope a_savedDom a_savedConstraints a_decidedVariable a_decidedValue a_current : Nat → Int32} {f_current : Int32} {a_made a_terms a_goal a_words a_decision : Nat → Int32} {K' R' C' F' S' Z' N' Q' wt wd' : Nat → Int32}
theorem fd_post_ctx (hI : fd_IR n m lv tn cn gn mv mc md f_space f_failed f_mode f_hasCurrent f_objective a_dom a_watch a_order a_direction a_termA a_termV a_cellX a_kind a_relation a_constant a_first a_second a_size a_number a_scope a_savedDom a_savedConstraints a_decidedVariable a_decidedValue a_current f_current a_made a_terms a_goal a_words a_decision) (hf : f_failed = 0) (hmc : m < mc) (hag : ∀ c, c < 13 → c ≠ m → fd_AG (a_kind, a_relation, a_constant, a_first, a_second, a_size, a_number, a_scope) (K', R', C', F', S', Z', N', Q') c) (hWF : fd_WF n (K', R', C', F', S', Z', N', Q') m) (hWD : fd_WD (K', R', C', F', S', Z', N', Q') wd' m) (hwd : ∀ i, i < 22 * m → wd' i = a_words i) (hw1 : ∀ v i, bt (a_watch v) i = true → bt (wt v) i = true) (hw2 : ∀ v, fd_Sc (K', R', C', F', S', Z', N', Q') m v → bt (wt v) m = true) (hw3 : ∀ v i, v < n → bt (wt v) i = true → bt (a_watch v) i = true ∨ i = m) :
    (∀ c, c < m + 1 → fd_WF n (K', R', C', F', S', Z', N', Q') c) ∧ fd_Wt n (m + 1) (K', R', C', F', S', Z', N', Q') wt ∧ fd_Good n m (K', R', C', F', S', Z', N', Q') a_dom ∧ fd_CY n (m + 1) (K', R', C', F', S', Z', N', Q') (fd_or a_order) (nI n) (nI (m + 1)) a_order wd' := by
  have hG := (fd_IR_D hI hf).1
  obtain ⟨⟨q1, q2, q3, q4, q5, q6⟩, gV, gT, gC, gK, gD, gL, gM, gU⟩ := hI
  have hw : ∀ c, c < m + 1 → fd_WF n (K', R', C', F', S', Z', N', Q') c := fun c hc => by
    by_cases e : c = m
    · rw [e]; exact hWF
    · exact fd_AG_WF (hag c (by omega) e) (gK.1 c (by omega))
  refine ⟨hw, ⟨fun v c hc hs => ?_, fun v i hv hb => ?_⟩, fd_AG_Good m (fun c hc => hag c (by omega) (by omega)) gK.1 hG, ⟨by omega, by omega, rfl, rfl, gV.1, gV.2.1, hw, fun c hc => ?_⟩⟩
  · by_cases e : c = m
    · rw [e] at hs ⊢; exact hw2 v hs
    · exact hw1 v c (gK.2.2.1 v c (by omega) (fd_AG_Sc (hag c (by omega) e) (fd_WF_sz (gK.1 c (by omega))) hs))
  · rcases hw3 v i hv hb with a | a
    · have := gK.2.2.2 v i hv a; omega
    · omega
  · by_cases e : c = m
    · rw [e]; exact hWD
    · exact fd_AG_WD (hag c (by omega) e) (gK.1 c (by omega)) (fun i hi => hwd _ (by omega)) (gK.2.1 c (by omega))
theorem fd_IR_post (hI : fd_IR n m lv tn cn gn mv mc md f_space f_failed f_mode f_hasCurrent f_objective a_dom a_watch a_order a_direction a_termA a_termV a_cellX a_kind a_relation a_constant a_first a_second a_size a_number a_scope a_savedDom a_savedConstraints a_decidedVariable a_decidedValue a_current f_current a_made a_terms a_goal a_words a_decision) (hm : f_mode = 0) (hf : f_failed = 0) (hmc : m < mc) (hag : ∀ c, c < 13 → c ≠ m → fd_AG (a_kind, a_relation, a_constant, a_first, a_second, a_size, a_number, a_scope) (K', R', C', F', S', Z', N', Q') c) (hWF : fd_WF n (K', R', C', F', S', Z', N', Q') m) (hWD : fd_WD (K', R', C', F', S', Z', N', Q') wd' m) (hwd : ∀ i, i < 22 * m → wd' i = a_words i) (hw1 : ∀ v i, bt (a_watch v) i = true → bt (wt v) i = true) (hw2 : ∀ v, fd_Sc (K', R', C', F', S', Z', N', Q') m v → bt (wt v) m = true) (hw3 : ∀ v i, v < n → bt (wt v) i = true → bt (a_watch v) i = true ∨ i = m)
    {tn' cn' : Nat} (gT' : fd_GT n tn' a_termA a_termV a_terms) (gC' : fd_GC cn' a_cellX) {r fl : Int32} {dm : Nat → Int32} (hO : fd_Out n (m + 1) (K', R', C', F', S', Z', N', Q') a_dom a_dom r fl dm) :
    fd_IR n (m + 1) lv tn' cn' gn mv mc md f_space fl f_mode f_hasCurrent f_objective dm wt a_order a_direction a_termA a_termV a_cellX K' R' C' F' S' Z' N' Q' a_savedDom a_savedConstraints a_decidedVariable a_decidedValue a_current f_current a_made a_terms a_goal wd' a_decision := by
  obtain ⟨c1, c2, c3, c4⟩ := fd_post_ctx hI hf hmc hag hWF hWD hwd hw1 hw2 hw3
  have hS := (fd_IR_D hI hf).2.1
  obtain ⟨⟨q1, q2, q3, q4, q5, q6⟩, gV, gT, gC, gK, gD, gL, ⟨m1, m2, m3, m4, m5, m6⟩, gU⟩ := hI
  have h12 := hag 12 (by omega) (by omega)
  have hgn : gn = 0 := m6 (Or.inl hm)
  refine ⟨⟨q1, q2, q3, q4, by omega, q6⟩, gV, gT', gC', ⟨c1, c4.2.2.2.2.2.2.2, c2⟩, ?_, ⟨fun l hl => ?_, gL.2⟩, ⟨m1, fun x => absurd hm x, fd_AG_Tm h12 m3, by rw [fd_AG_sz h12]; exact m4, fun j hj => ?_, m6⟩, ?_⟩
  · rcases hO.2 with ⟨_, b, c⟩ | ⟨_, b, _, d⟩
    · exact Or.inl ⟨b, c.1, fd_Sub_tr c.2.1 hS⟩
    · exact Or.inr ⟨b, d⟩
  · obtain ⟨a, b, d, e, f⟩ := gL.1 l hl
    exact ⟨a, by omega, fd_AG_Good _ (fun c hc => hag c (by omega) (by omega)) (fun c hc => gK.1 c (by omega)) d, e, f⟩
  · rw [fd_AG_sz h12, m4, hgn] at hj; exact absurd hj (by omega)
  · rcases gU with x | ⟨_, x, _⟩
    · exact Or.inl x
    · exact absurd hm x
/-- the slot of posted terms -/
theorem fd_slotT (gT : fd_GT n tn a_termA a_termV a_terms) (hm12 : m < 12) {kd R K b r : Int32} (hkd : ¬ kd = 4) :
    (∀ c, c < 13 → c ≠ m → fd_AG (a_kind, a_relation, a_constant, a_first, a_second, a_size, a_number, a_scope) (upd a_kind m kd, upd a_relation m R, upd a_constant m K, upd a_first m b, upd a_second m r, upd a_size m (nI tn), fd_sv a_number a_termA (16 * m) tn, fd_sv a_scope a_termV (16 * m) tn) c) ∧
    fd_Tm n (upd a_kind m kd, upd a_relation m R, upd a_constant m K, upd a_first m b, upd a_second m r, upd a_size m (nI tn), fd_sv a_number a_termA (16 * m) tn, fd_sv a_scope a_termV (16 * m) tn) m ∧
    fd_sz (upd a_kind m kd, upd a_relation m R, upd a_constant m K, upd a_first m b, upd a_second m r, upd a_size m (nI tn), fd_sv a_number a_termA (16 * m) tn, fd_sv a_scope a_termV (16 * m) tn) m = tn ∧
    (∀ j, j < tn → fd_sp (upd a_kind m kd, upd a_relation m R, upd a_constant m K, upd a_first m b, upd a_second m r, upd a_size m (nI tn), fd_sv a_number a_termA (16 * m) tn, fd_sv a_scope a_termV (16 * m) tn) m j = (a_termV j).toNatClampNeg ∧ fd_nu (upd a_kind m kd, upd a_relation m R, upd a_constant m K, upd a_first m b, upd a_second m r, upd a_size m (nI tn), fd_sv a_number a_termA (16 * m) tn, fd_sv a_scope a_termV (16 * m) tn) m j = (a_termA j).toInt) ∧
    fd_WD (upd a_kind m kd, upd a_relation m R, upd a_constant m K, upd a_first m b, upd a_second m r, upd a_size m (nI tn), fd_sv a_number a_termA (16 * m) tn, fd_sv a_scope a_termV (16 * m) tn) (fd_sv (fd_w6 a_words m kd R K b r (nI tn)) a_terms (22 * m + 6) (2 * tn)) m ∧
    (∀ i, i < 22 * m → fd_sv (fd_w6 a_words m kd R K b r (nI tn)) a_terms (22 * m + 6) (2 * tn) i = a_words i) := by
  obtain ⟨t1, t2, t3⟩ := gT
  have nA : ∀ j, j < tn → fd_sv a_number a_termA (16 * m) tn (16 * m + j) = a_termA j := fun j hj => by
    rw [fd_sv_at, if_pos (by omega)]; congr 1; omega
  have nV : ∀ j, j < tn → fd_sv a_scope a_termV (16 * m) tn (16 * m + j) = a_termV j := fun j hj => by
    rw [fd_sv_at, if_pos (by omega)]; congr 1; omega
  have esz : fd_sz (upd a_kind m kd, upd a_relation m R, upd a_constant m K, upd a_first m b, upd a_second m r, upd a_size m (nI tn), fd_sv a_number a_termA (16 * m) tn, fd_sv a_scope a_termV (16 * m) tn) m = tn := by
    show (upd a_size m (nI tn) m).toNatClampNeg = tn
    rw [pk_us]; exact pk_cl tn
  have esp : ∀ j, j < tn → fd_sp (upd a_kind m kd, upd a_relation m R, upd a_constant m K, upd a_first m b, upd a_second m r, upd a_size m (nI tn), fd_sv a_number a_termA (16 * m) tn, fd_sv a_scope a_termV (16 * m) tn) m j = (a_termV j).toNatClampNeg := fun j hj => by
    show (fd_sv a_scope a_termV (16 * m) tn (16 * m + j)).toNatClampNeg = _
    rw [nV j hj]
  have enu : ∀ j, j < tn → fd_nu (upd a_kind m kd, upd a_relation m R, upd a_constant m K, upd a_first m b, upd a_second m r, upd a_size m (nI tn), fd_sv a_number a_termA (16 * m) tn, fd_sv a_scope a_termV (16 * m) tn) m j = (a_termA j).toInt := fun j hj => by
    show (fd_sv a_number a_termA (16 * m) tn (16 * m + j)).toInt = _
    rw [nA j hj]
  refine ⟨fun c hc hne => ⟨pk_un hne, pk_un hne, pk_un hne, pk_un hne, pk_un hne, pk_un hne, fun j hj => ?_, fun j hj => ?_⟩, ⟨by rw [esz]; exact t1, ?_, fun j hj => ?_, fun i j hi hj e => ?_⟩, esz, fun j hj => ⟨esp j hj, enu j hj⟩, ⟨?_, ?_, ?_, ?_, ?_, ?_, fun _ j hj => ?_, fun hk => ?_⟩, fun i hi => ?_⟩
  · show fd_sv a_number a_termA (16 * m) tn (16 * c + j) = a_number (16 * c + j)
    rw [fd_sv_at, if_neg (by omega)]
  · show fd_sv a_scope a_termV (16 * m) tn (16 * c + j) = a_scope (16 * c + j)
    rw [fd_sv_at, if_neg (by omega)]
  · rw [esz]; exact pk_us
  · rw [esz] at hj
    rw [esp j hj, enu j hj]
    obtain ⟨a, b', d, e, _⟩ := t2 j hj
    refine ⟨b', ?_, d, e⟩
    show fd_sv a_scope a_termV (16 * m) tn (16 * m + j) = _
    rw [nV j hj]; exact a
  · rw [esz] at hi hj
    rw [esp i hi, esp j hj] at e
    exact t3 i j hi hj e
  · rw [fd_sv_at, if_neg (by omega), fd_w6_0.1]; exact pk_us.symm
  · rw [fd_sv_at, if_neg (by omega), fd_w6_0.2.1]; exact pk_us.symm
  · rw [fd_sv_at, if_neg (by omega), fd_w6_0.2.2.1]; exact pk_us.symm
  · rw [fd_sv_at, if_neg (by omega), fd_w6_0.2.2.2.1]; exact pk_us.symm
  · rw [fd_sv_at, if_neg (by omega), fd_w6_0.2.2.2.2.1]; exact pk_us.symm
  · rw [fd_sv_at, if_neg (by omega), fd_w6_0.2.2.2.2.2]; exact pk_us.symm
  · rw [esz] at hj
    obtain ⟨_, _, _, _, a1, a2⟩ := t2 j hj
    rw [fd_sv_at, if_pos (by omega), fd_sv_at, if_pos (by omega)]
    have e1 : 22 * m + 6 + 2 * j - (22 * m + 6) = 2 * j := by omega
    have e2 : 22 * m + 6 + 2 * j + 1 - (22 * m + 6) = 2 * j + 1 := by omega
    rw [e1, e2, a1, a2]
    exact ⟨(nA j hj).symm, (nV j hj).symm⟩
  · have hk : upd a_kind m kd m = 4 := hk
    rw [pk_us] at hk
    exact absurd hk hkd
  · rw [fd_sv_at, if_neg (by omega), fd_w6_n hi]
end
theorem fd_lin0 {n tn : Nat} {a_termA a_termV a_terms : Nat → Int32} : fd_GT n 0 a_termA a_termV a_terms := ⟨by omega, fun j hj => absurd hj (by omega), fun i j hi => absurd hi (by omega)⟩
theorem fd_toI0 {x : Int32} (h : x ≠ 0) : x.toInt ≠ 0 := fun e => h (Int32.toInt_inj.mp (by rw [e]; rfl))
/-- constants from -4096 to 4096 -/
theorem fd_con {c : Int32} (h1 : ¬ c < -4096) (h2 : ¬ 4096 < c) : -4096 ≤ c.toInt ∧ c.toInt ≤ 4096 := by
  rw [Int32.lt_iff_toInt_lt] at h1 h2
  have e1 : (-4096 : Int32).toInt = -4096 := by decide
  have e2 : (4096 : Int32).toInt = 4096 := by decide
  omega
section
variable {f_maxVariables f_maxConstraints f_maxDepth f_vars f_cons f_level f_failed f_termCount f_cellCount f_goalCount f_mode f_found f_exhausted f_current : Int32} {a_made a_dom a_order a_dir a_terms a_cells a_goal a_words a_savedDom a_savedCons a_decision a_val a_seen : Nat → Int32} {post : Int32 → Prop} {r : Nat} {c : Int32}
theorem fd_ybad0 (hr : r ≤ 3) (h1 : ¬ c < -4096) (h2 : ¬ 4096 < c) (h : post 0) : wpY_badRelation post (f_maxVariables, f_maxConstraints, f_maxDepth, f_vars, f_cons, f_level, f_failed, f_termCount, f_cellCount, f_goalCount, f_mode, f_found, f_exhausted, f_current, a_made, a_dom, a_order, a_dir, a_terms, a_cells, a_goal, a_words, a_savedDom, a_savedCons, a_decision, a_val, a_seen) (nI r) c :=
  br_f (nI_pos (by omega)) (br_f (nI_nlt (a := 3) (b := r) hr (by omega)) (br_f h1 (br_t (Int32.not_lt.mp h2) h)))
theorem fd_ybad1 {p : Int32} (hp : (p < 0 ∨ 3 < p) ∨ (c < -4096 ∨ 4096 < c)) (h : post 1) : wpY_badRelation post (f_maxVariables, f_maxConstraints, f_maxDepth, f_vars, f_cons, f_level, f_failed, f_termCount, f_cellCount, f_goalCount, f_mode, f_found, f_exhausted, f_current, a_made, a_dom, a_order, a_dir, a_terms, a_cells, a_goal, a_words, a_savedDom, a_savedCons, a_decision, a_val, a_seen) p c :=
  br_c (fun _ => h) (fun a => br_c (fun _ => h) (fun b => br_c (fun _ => h) (fun d => br_c (fun e => absurd hp (by
    rintro ((x | x) | (x | x))
    · exact a x
    · exact b x
    · exact d x
    · exact Int32.not_lt.mpr e x)) (fun _ => h))))
end
section
variable {f_objectiveSlot f_maxVariables f_maxConstraints f_maxDepth f_variables f_space f_failed f_terms f_cells f_constraints f_level f_mode f_found f_exhausted f_hasCurrent f_objective f_pending : Int32} {f_matched : Int64} {f_depth f_guided f_bounded : Int32} {a_dom a_watch a_order a_direction a_termA a_termV a_cellX a_kind a_relation a_constant a_first a_second a_size a_number a_scope a_savedDom a_savedConstraints a_decidedVariable a_decidedValue a_current a_work a_sums a_grown : Nat → Int32} {a_image : Nat → Int64} {a_mate a_parent a_queue a_reach a_frames a_left : Nat → Int32} {post : Int32 → Prop} {c : Int32}
theorem fd_xcon1 (h1 : ¬ c < -4096) (h2 : ¬ 4096 < c) (h : post 1) : wpX_isConstant post (f_objectiveSlot, f_maxVariables, f_maxConstraints, f_maxDepth, f_variables, f_space, f_failed, f_terms, f_cells, f_constraints, f_level, f_mode, f_found, f_exhausted, f_hasCurrent, f_objective, f_pending, f_matched, f_depth, f_guided, f_bounded, a_dom, a_watch, a_order, a_direction, a_termA, a_termV, a_cellX, a_kind, a_relation, a_constant, a_first, a_second, a_size, a_number, a_scope, a_savedDom, a_savedConstraints, a_decidedVariable, a_decidedValue, a_current, a_work, a_sums, a_grown, a_image, a_mate, a_parent, a_queue, a_reach, a_frames, a_left) c := br_f h1 (br_f h2 h)
theorem fd_xcon0 (hp : c < -4096 ∨ 4096 < c) (h : post 0) : wpX_isConstant post (f_objectiveSlot, f_maxVariables, f_maxConstraints, f_maxDepth, f_variables, f_space, f_failed, f_terms, f_cells, f_constraints, f_level, f_mode, f_found, f_exhausted, f_hasCurrent, f_objective, f_pending, f_matched, f_depth, f_guided, f_bounded, a_dom, a_watch, a_order, a_direction, a_termA, a_termV, a_cellX, a_kind, a_relation, a_constant, a_first, a_second, a_size, a_number, a_scope, a_savedDom, a_savedConstraints, a_decidedVariable, a_decidedValue, a_current, a_work, a_sums, a_grown, a_image, a_mate, a_parent, a_queue, a_reach, a_frames, a_left) c := br_c (fun _ => h) (fun a => br_c (fun _ => h) (fun b => absurd hp (fun x => x.elim a b)))
end
theorem i_vc_postLinear {k : Nat} {u : SX} {v : SY} (I : i_Rel k u v) (hk : k + 4 ≤ 2051) (v1 : Int32) (v2 : Int32) : wpX_postLinear (fun r u' => wpY_postLinear (fun r' v' => r' = r ∧ i_Rel (k + 4) u' v') v v1 v2) u v1 v2 := by
  refine fd_el (P := fun u v => wpX_postLinear (fun r u' => wpY_postLinear (fun r' v' => r' = r ∧ i_Rel (k + 4) u' v') v v1 v2) u v1 v2) I ?_
  intro n m lv tn cn gn mv mc md f_objectiveSlot f_space f_failed f_mode f_found f_exhausted f_hasCurrent f_objective f_pending f_matched f_depth f_guided f_bounded a_dom a_watch a_order a_direction a_termA a_termV a_cellX a_kind a_relation a_constant a_first a_second a_size a_number a_scope a_savedDom a_savedConstraints a_decidedVariable a_decidedValue a_current a_work a_sums a_grown a_image a_mate a_parent a_queue a_reach a_frames a_left f_current a_made a_terms a_goal a_words a_decision a_val a_seen hI
  obtain ⟨q1, q2, q3, q4, q5, q6⟩ := hI.1
  have gT := hI.2.2.1
  have gC := hI.2.2.2.1
  obtain ⟨t1, t2, t3⟩ := gT
  by_cases hm : f_mode = 0
  · by_cases hf : f_failed = 0
    · obtain ⟨hG, hS, htot⟩ := fd_IR_D hI hf
      refine br_t hm (br_t hf ?_)
      have yb : ((v1 < 0 ∨ 3 < v1) ∨ (v2 < -4096 ∨ 4096 < v2)) → wpY_postLinear (fun r' v' => r' = -3 ∧ i_Rel (k + 4) (f_objectiveSlot, nI mv, nI mc, nI md, nI n, f_space, f_failed, nI tn, nI cn, nI m, nI lv, f_mode, f_found, f_exhausted, f_hasCurrent, f_objective, f_pending, f_matched, f_depth, f_guided, f_bounded, a_dom, a_watch, a_order, a_direction, a_termA, a_termV, a_cellX, a_kind, a_relation, a_constant, a_first, a_second, a_size, a_number, a_scope, a_savedDom, a_savedConstraints, a_decidedVariable, a_decidedValue, a_current, a_work, a_sums, a_grown, a_image, a_mate, a_parent, a_queue, a_reach, a_frames, a_left) v') (nI mv, nI mc, nI md, nI n, nI m, nI lv, f_failed, nI tn, nI cn, nI gn, f_mode, f_found, f_exhausted, f_current, a_made, a_dom, a_order, a_direction, a_terms, a_cellX, a_goal, a_words, a_savedDom, a_savedConstraints, a_decision, a_val, a_seen) v1 v2 := fun hbad => by
        unfold wpY_postLinear
        exact fd_yg0 hm hf (br_t rfl (fd_ybad1 hbad (br_f (by decide) ⟨rfl, fd_mk hI⟩)))
      rcases fd_isr v1 with ⟨rl, hrl, e⟩ | hnr
      · subst e
        refine fd_xisr1 hrl (br_f (by decide) ?_)
        by_cases c1 : v2 < -4096
        · exact fd_xcon0 (Or.inl c1) (br_t rfl (yb (Or.inr (Or.inl c1))))
        · by_cases c2 : 4096 < v2
          · exact fd_xcon0 (Or.inr c2) (br_t rfl (yb (Or.inr (Or.inr c2))))
          · refine fd_xcon1 c1 c2 (br_f (by decide) ?_)
            have hct := fd_con c1 c2
            rcases Nat.eq_zero_or_pos tn with ht0 | ht0
            · subst ht0
              refine br_t rfl ?_
              show wpY_postLinear _ _ _ _
              unfold wpY_postLinear
              exact fd_yg0 hm hf (br_t rfl (fd_ybad0 hrl c1 c2 (br_t rfl (br_t rfl ⟨rfl, fd_mk hI⟩))))
            · have hz : ¬ nI tn = 0 := nI_ne0 ht0 (by omega)
              refine br_f hz (fd_xzT t1 (fun j hj e => ?_) (fun hnz => ?_))
              · refine br_f (by decide) ?_
                show wpY_postLinear _ _ _ _
                unfold wpY_postLinear
                exact fd_yg0 hm hf (br_t rfl (fd_ybad0 hrl c1 c2 (br_t rfl (br_f hz (fd_yzT t1 (fun _ _ _ => br_f (by decide) ⟨rfl, fd_mk hI⟩) (fun hx => absurd (by rw [(t2 j hj).2.2.2.2.1]; exact e) (hx j hj)))))))
              · have ynz : ∀ {post : Int32 → Prop}, post 0 → wpY_zeroTerm post (nI mv, nI mc, nI md, nI n, nI m, nI lv, f_failed, nI tn, nI cn, nI gn, f_mode, f_found, f_exhausted, f_current, a_made, a_dom, a_order, a_direction, a_terms, a_cellX, a_goal, a_words, a_savedDom, a_savedConstraints, a_decision, a_val, a_seen) := fun hp => fd_yzT t1 (fun j hj e => absurd (by rw [← (t2 j hj).2.2.2.2.1]; exact e) (hnz j hj)) (fun _ => hp)
                refine br_t rfl ?_
                -- the posting itself
                have main : (rl = 0 → tn ≤ 2) → wX_postLinear_73 (fun r u' => wpY_postLinear (fun r' v' => r' = r ∧ i_Rel (k + 4) u' v') (nI mv, nI mc, nI md, nI n, nI m, nI lv, f_failed, nI tn, nI cn, nI gn, f_mode, f_found, f_exhausted, f_current, a_made, a_dom, a_order, a_direction, a_terms, a_cellX, a_goal, a_words, a_savedDom, a_savedConstraints, a_decision, a_val, a_seen) (nI rl) v2) (nI rl) v2 f_objectiveSlot (nI mv) (nI mc) (nI md) (nI n) f_space f_failed (nI tn) (nI cn) (nI m) (nI lv) f_mode f_found f_exhausted f_hasCurrent f_objective f_pending f_matched f_depth f_guided f_bounded a_dom a_watch a_order a_direction a_termA a_termV a_cellX a_kind a_relation a_constant a_first a_second a_size a_number a_scope a_savedDom a_savedConstraints a_decidedVariable a_decidedValue a_current a_work a_sums a_grown a_image a_mate a_parent a_queue a_reach a_frames a_left := by
                  intro hlen
                  have ylen : ∀ {A B : Prop}, A → ((nI rl = 0 → ((nI tn ≤ 2 → A) ∧ (¬ nI tn ≤ 2 → B))) ∧ (¬ nI rl = 0 → A)) := fun hA => by
                    rcases Nat.eq_zero_or_pos rl with e | e
                    · subst e; exact br_t rfl (br_t (nI_le (b := 2) (hlen rfl) (by omega)) hA)
                    · exact br_f (nI_ne0 e (by omega)) hA
                  unfold wX_postLinear_73
                  refine pk_lt m mc (fun hmc => ?_) (fun hmc => ?_)
                  · obtain ⟨s1, s2, s3, s4, s5, s6⟩ := fd_slotT (n := n) (tn := tn) (m := m) (a_kind := a_kind) (a_relation := a_relation) (a_constant := a_constant) (a_first := a_first) (a_second := a_second) (a_size := a_size) (a_number := a_number) (a_scope := a_scope) (a_words := a_words) ⟨t1, t2, t3⟩ (by omega) (kd := 1) (R := nI rl) (K := v2) (b := -1) (r := -1) (by decide)
                    have hWF : fd_WF n (upd a_kind m 1, upd a_relation m (nI rl), upd a_constant m v2, upd a_first m (-1), upd a_second m (-1), upd a_size m (nI tn), fd_sv a_number a_termA (16 * m) tn, fd_sv a_scope a_termV (16 * m) tn) m := by
                      have erl : fd_rl (upd a_kind m 1, upd a_relation m (nI rl), upd a_constant m v2, upd a_first m (-1), upd a_second m (-1), upd a_size m (nI tn), fd_sv a_number a_termA (16 * m) tn, fd_sv a_scope a_termV (16 * m) tn) m = rl := by
                        show (upd a_relation m (nI rl) m).toNatClampNeg = rl
                        rw [pk_us]; exact pk_cl rl
                      have ect : fd_ct (upd a_kind m 1, upd a_relation m (nI rl), upd a_constant m v2, upd a_first m (-1), upd a_second m (-1), upd a_size m (nI tn), fd_sv a_number a_termA (16 * m) tn, fd_sv a_scope a_termV (16 * m) tn) m = v2.toInt := by
                        show (upd a_constant m v2 m).toInt = _
                        rw [pk_us]
                      refine Or.inl ⟨pk_us, s2, by rw [s3]; exact ht0, ⟨by rw [erl]; exact pk_us, by rw [erl]; exact hrl, by rw [ect]; exact hct.1, by rw [ect]; exact hct.2, fun j hj => ?_⟩, by rw [erl, s3]; exact hlen⟩
                      rw [s3] at hj
                      rw [(s4 j hj).2]
                      exact fd_toI0 (hnz j hj)
                    refine fd_xenl (m := m) (by omega) (fd_xtt (by omega) t1 (fd_xwt (tn := tn) (V := fun j => (a_termV j).toNatClampNeg) (by omega) t1 pk_us (fun j hj => ⟨?_, ?_⟩) (fun wt hwt => ?_)))
                    · rw [fd_sv_at, if_pos (by omega)]
                      have e : 16 * m + j - 16 * m = j := by omega
                      rw [e]; exact (t2 j hj).1
                    · have := (t2 j hj).2.1; show (a_termV j).toNatClampNeg < 8; omega
                    · have w1 : ∀ v i, bt (a_watch v) i = true → bt (wt v) i = true := fun v i hb => (hwt v i).mpr (Or.inl hb)
                      have w2 : ∀ v, fd_Sc (upd a_kind m 1, upd a_relation m (nI rl), upd a_constant m v2, upd a_first m (-1), upd a_second m (-1), upd a_size m (nI tn), fd_sv a_number a_termA (16 * m) tn, fd_sv a_scope a_termV (16 * m) tn) m v → bt (wt v) m = true := fun v hs => by
                        have ek : fd_kd (upd a_kind m 1, upd a_relation m (nI rl), upd a_constant m v2, upd a_first m (-1), upd a_second m (-1), upd a_size m (nI tn), fd_sv a_number a_termA (16 * m) tn, fd_sv a_scope a_termV (16 * m) tn) m = 1 := pk_us
                        rcases hs with ⟨a, _⟩ | ⟨_, j, hj, e⟩ | ⟨a, _⟩
                        · rw [ek] at a; exact absurd a (by decide)
                        · rw [s3] at hj
                          exact (hwt v m).mpr (Or.inr ⟨rfl, j, hj, by rw [← (s4 j hj).1]; exact e⟩)
                        · rw [ek] at a; exact absurd a (by decide)
                      have w3 : ∀ v i, v < n → bt (wt v) i = true → bt (a_watch v) i = true ∨ i = m := fun v i _ hb => ((hwt v i).mp hb).elim Or.inl (fun z => Or.inr z.1)
                      obtain ⟨c1', c2', c3', c4'⟩ := fd_post_ctx hI hf hmc s1 hWF s5 s6 w1 w2 w3
                      refine fd_xclosep (n := n) (m := m) (by omega) (by omega) rfl c1' c2' c3' htot (fun r fl dm W' jm j1 j2 j3 j4 j5 j6 j7 hO => ?_)
                      show wpY_postLinear _ _ _ _
                      unfold wpY_postLinear
                      refine fd_yg0 hm hf (br_t rfl (fd_ybad0 hrl c1 c2 (br_t rfl (br_f hz (ynz (br_t rfl (ylen ?_)))))))
                      refine br_t (nI_lt hmc (by omega)) (fd_yadd (n := n) (m := m) (tn := tn) (by decide) (by omega) t1 hf htot c4' (fun r' fl' dm' val sn hO' => ?_))
                      obtain ⟨e1, e2, e3⟩ := fd_Out_un hO hO'
                      subst e1 e2 e3
                      exact ⟨rfl, fd_mk (m := m + 1) (tn := 0) (fd_IR_post hI hm hf hmc s1 hWF s5 s6 w1 w2 w3 (tn' := 0) (cn' := cn) (fd_lin0 (tn := tn)) gC hO')⟩
                  · show wpY_postLinear _ _ _ _
                    unfold wpY_postLinear
                    exact fd_yg0 hm hf (br_t rfl (fd_ybad0 hrl c1 c2 (br_t rfl (br_f hz (ynz (br_t rfl (ylen (br_f (nI_nlt hmc (by omega)) ⟨rfl, fd_mk hI⟩)))))))
)
                rcases Nat.eq_zero_or_pos rl with e | e
                · subst e
                  refine br_t rfl (pk_le tn 2 (fun h2 => main (fun _ => h2)) (fun h2 => ?_))
                  show wpY_postLinear _ _ _ _
                  unfold wpY_postLinear
                  exact fd_yg0 hm hf (br_t rfl (fd_ybad0 hrl c1 c2 (br_t rfl (br_f hz (ynz (br_t rfl (br_t rfl (br_f (nI_ge (a := 2) h2 (by omega)) ⟨rfl, fd_mk hI⟩))))))))
                · exact br_f (nI_ne0 e (by omega)) (main (fun z => by omega))
      · exact fd_xisr0 hnr (br_t rfl (yb (Or.inl hnr)))
    · exact br_t hm (br_f hf (fd_yf_postLinear hm hf ⟨rfl, fd_mk hI⟩))
  · exact br_f hm (fd_yb_postLinear hm ⟨rfl, fd_mk hI⟩)
end
section
/-! ===== postReified, postAllDifferent, postElement ===== -/
section
variable {f_maxVariables f_maxConstraints f_maxDepth f_vars f_cons f_level f_failed f_termCount f_cellCount f_goalCount f_mode f_found f_exhausted f_current : Int32} {a_made a_dom a_order a_dir a_terms a_cells a_goal a_words a_savedDom a_savedCons a_decision a_val a_seen : Nat → Int32} {post : Int32 → SY → Prop} {tn m mc : Nat} {p R K : Int32}
theorem fd_yrei_in (ht : tn ≤ 8) {j0 : Nat} (hj0 : j0 < tn) (hat : a_terms (2 * j0 + 1) = p) (h : post (-6) (f_maxVariables, f_maxConstraints, f_maxDepth, f_vars, f_cons, f_level, f_failed, nI tn, f_cellCount, f_goalCount, f_mode, f_found, f_exhausted, f_current, a_made, a_dom, a_order, a_dir, a_terms, a_cells, a_goal, a_words, a_savedDom, a_savedCons, a_decision, a_val, a_seen)) : ∀ t j, j + t = tn → j ≤ j0 → ∀ q, t < q → wY_postReified_55 post p R K f_maxVariables f_maxConstraints f_maxDepth f_vars f_cons f_level f_failed (nI tn) f_cellCount f_goalCount f_mode f_found f_exhausted f_current a_made a_dom a_order a_dir a_terms a_cells a_goal a_words a_savedDom a_savedCons a_decision a_val a_seen q (nI j) := by
  intro t
  induction t with
  | zero => intro j hj hjj q hq; omega
  | succ t ih =>
    intro j hj hjj q hq
    obtain ⟨q, rfl⟩ : ∃ q', q = q' + 1 := ⟨q - 1, by omega⟩
    have i1 : 2 * nI j = nI (2 * j) := pk_mul 2 j
    have i2 : nI (2 * j) + 1 = nI (2 * j + 1) := nI_1 _
    have e2 : (nI (2 * j + 1)).toNatClampNeg = 2 * j + 1 := pk_cl _
    refine pk_le tn j (fun c => absurd c (by omega)) (fun _ => ?_)
    rw [i1, i2, e2]
    refine ⟨pk_in (2 * j + 1) 16 (by omega), ?_⟩
    by_cases c : a_terms (2 * j + 1) = p
    · exact br_t c h
    · refine br_f c (nm_r (nI_1 j) (ih (j + 1) (by omega) ?_ q (by omega)))
      have : j ≠ j0 := fun e => c (e ▸ hat)
      omega
theorem fd_yrei_out (ht : tn ≤ 8) (hm : m ≤ 12) (hmc : mc ≤ 12) (hno : ∀ j, j < tn → a_terms (2 * j + 1) ≠ p) (h7 : 2 < tn → post (-7) (f_maxVariables, nI mc, f_maxDepth, f_vars, nI m, f_level, f_failed, nI tn, f_cellCount, f_goalCount, f_mode, f_found, f_exhausted, f_current, a_made, a_dom, a_order, a_dir, a_terms, a_cells, a_goal, a_words, a_savedDom, a_savedCons, a_decision, a_val, a_seen)) (h5 : tn ≤ 2 → mc ≤ m → post (-5) (f_maxVariables, nI mc, f_maxDepth, f_vars, nI m, f_level, f_failed, nI tn, f_cellCount, f_goalCount, f_mode, f_found, f_exhausted, f_current, a_made, a_dom, a_order, a_dir, a_terms, a_cells, a_goal, a_words, a_savedDom, a_savedCons, a_decision, a_val, a_seen)) (hgo : tn ≤ 2 → m < mc → wpY_addConstraint post (f_maxVariables, nI mc, f_maxDepth, f_vars, nI m, f_level, f_failed, nI tn, f_cellCount, f_goalCount, f_mode, f_found, f_exhausted, f_current, a_made, a_dom, a_order, a_dir, a_terms, a_cells, a_goal, a_words, a_savedDom, a_savedCons, a_decision, a_val, a_seen) 2 R K p (-1)) :
    ∀ t j, j + t = tn → ∀ q, t < q → wY_postReified_55 post p R K f_maxVariables (nI mc) f_maxDepth f_vars (nI m) f_level f_failed (nI tn) f_cellCount f_goalCount f_mode f_found f_exhausted f_current a_made a_dom a_order a_dir a_terms a_cells a_goal a_words a_savedDom a_savedCons a_decision a_val a_seen q (nI j) := by
  intro t
  induction t with
  | zero =>
    intro j hj q hq
    obtain ⟨q, rfl⟩ : ∃ q', q = q' + 1 := ⟨q - 1, by omega⟩
    exact pk_le tn j (fun _ => pk_le tn 2 (fun h2 => pk_lt m mc (fun h => hgo h2 h) (fun h => h5 h2 h)) (fun h2 => h7 h2)) (fun c => absurd c (by omega))
  | succ t ih =>
    intro j hj q hq
    obtain ⟨q, rfl⟩ : ∃ q', q = q' + 1 := ⟨q - 1, by omega⟩
    have i1 : 2 * nI j = nI (2 * j) := pk_mul 2 j
    have i2 : nI (2 * j) + 1 = nI (2 * j + 1) := nI_1 _
    have e2 : (nI (2 * j + 1)).toNatClampNeg = 2 * j + 1 := pk_cl _
    refine pk_le tn j (fun c => absurd c (by omega)) (fun _ => ?_)
    rw [i1, i2, e2]
    exact ⟨pk_in (2 * j + 1) 16 (by omega), br_f (hno j (by omega)) (nm_r (nI_1 j) (ih (j + 1) (by omega) q (by omega)))⟩
end
theorem i_vc_postAllDifferent {k : Nat} {u : SX} {v : SY} (I : i_Rel k u v) (hk : k + 4 ≤ 2051) : wpX_postAllDifferent (fun r u' => wpY_postAllDifferent (fun r' v' => r' = r ∧ i_Rel (k + 4) u' v') v) u := by
  refine fd_el (P := fun u v => wpX_postAllDifferent (fun r u' => wpY_postAllDifferent (fun r' v' => r' = r ∧ i_Rel (k + 4) u' v') v) u) I ?_
  intro n m lv tn cn gn mv mc md f_objectiveSlot f_space f_failed f_mode f_found f_exhausted f_hasCurrent f_objective f_pending f_matched f_depth f_guided f_bounded a_dom a_watch a_order a_direction a_termA a_termV a_cellX a_kind a_relation a_constant a_first a_second a_size a_number a_scope a_savedDom a_savedConstraints a_decidedVariable a_decidedValue a_current a_work a_sums a_grown a_image a_mate a_parent a_queue a_reach a_frames a_left f_current a_made a_terms a_goal a_words a_decision a_val a_seen hI
  obtain ⟨q1, q2, q3, q4, q5, q6⟩ := hI.1
  have gT := hI.2.2.1
  have gC := hI.2.2.2.1
  obtain ⟨t1, t2, t3⟩ := gT
  by_cases hm : f_mode = 0
  · by_cases hf : f_failed = 0
    · obtain ⟨hG, hS, htot⟩ := fd_IR_D hI hf
      refine br_t hm (br_t hf ?_)
      rcases Nat.eq_zero_or_pos tn with ht0 | ht0
      · subst ht0
        refine br_t rfl ?_
        show wpY_postAllDifferent _ _
        unfold wpY_postAllDifferent
        exact fd_yg0 hm hf (br_t rfl (br_t rfl ⟨rfl, fd_mk hI⟩))
      · have hz : ¬ nI tn = 0 := nI_ne0 ht0 (by omega)
        refine br_f hz (pk_lt m mc (fun hmc => ?_) (fun hmc => ?_))
        · obtain ⟨s1, s2, s3, s4, s5, s6⟩ := fd_slotT (n := n) (tn := tn) (m := m) (a_kind := a_kind) (a_relation := a_relation) (a_constant := a_constant) (a_first := a_first) (a_second := a_second) (a_size := a_size) (a_number := a_number) (a_scope := a_scope) (a_words := a_words) ⟨t1, t2, t3⟩ (by omega) (kd := 3) (R := -1) (K := 0) (b := -1) (r := -1) (by decide)
          have hWF : fd_WF n (upd a_kind m 3, upd a_relation m (-1), upd a_constant m (0), upd a_first m (-1), upd a_second m (-1), upd a_size m (nI tn), fd_sv a_number a_termA (16 * m) tn, fd_sv a_scope a_termV (16 * m) tn) m := Or.inr (Or.inr (Or.inl ⟨pk_us, s2, by rw [s3]; exact ht0⟩))
          refine fd_xenl (m := m) (by omega) (fd_xtt (by omega) t1 (fd_xwt (tn := tn) (V := fun j => (a_termV j).toNatClampNeg) (by omega) t1 pk_us (fun j hj => ⟨?_, ?_⟩) (fun wt hwt => ?_)))
          · rw [fd_sv_at, if_pos (by omega)]
            have e : 16 * m + j - 16 * m = j := by omega
            rw [e]; exact (t2 j hj).1
          · have := (t2 j hj).2.1; show (a_termV j).toNatClampNeg < 8; omega
          · have w1 : ∀ v i, bt (a_watch v) i = true → bt (wt v) i = true := fun v i hb => (hwt v i).mpr (Or.inl hb)
            have w2 : ∀ v, fd_Sc (upd a_kind m 3, upd a_relation m (-1), upd a_constant m (0), upd a_first m (-1), upd a_second m (-1), upd a_size m (nI tn), fd_sv a_number a_termA (16 * m) tn, fd_sv a_scope a_termV (16 * m) tn) m v → bt (wt v) m = true := fun v hs => by
              have ek : fd_kd (upd a_kind m 3, upd a_relation m (-1), upd a_constant m (0), upd a_first m (-1), upd a_second m (-1), upd a_size m (nI tn), fd_sv a_number a_termA (16 * m) tn, fd_sv a_scope a_termV (16 * m) tn) m = 3 := pk_us
              rcases hs with ⟨a, _⟩ | ⟨_, j, hj, e⟩ | ⟨a, _⟩
              · rw [ek] at a; exact absurd a (by decide)
              · rw [s3] at hj
                exact (hwt v m).mpr (Or.inr ⟨rfl, j, hj, by rw [← (s4 j hj).1]; exact e⟩)
              · rw [ek] at a; exact absurd a (by decide)
            have w3 : ∀ v i, v < n → bt (wt v) i = true → bt (a_watch v) i = true ∨ i = m := fun v i _ hb => ((hwt v i).mp hb).elim Or.inl (fun z => Or.inr z.1)
            obtain ⟨c1', c2', c3', c4'⟩ := fd_post_ctx hI hf hmc s1 hWF s5 s6 w1 w2 w3
            refine fd_xclosep (n := n) (m := m) (by omega) (by omega) rfl c1' c2' c3' htot (fun r fl dm W' jm j1 j2 j3 j4 j5 j6 j7 hO => ?_)
            show wpY_postAllDifferent _ _
            unfold wpY_postAllDifferent
            refine fd_yg0 hm hf (br_t rfl (br_f hz (br_t (nI_lt hmc (by omega)) (fd_yadd (n := n) (m := m) (tn := tn) (by decide) (by omega) t1 hf htot c4' (fun r' fl' dm' val sn hO' => ?_)))))
            obtain ⟨e1, e2, e3⟩ := fd_Out_un hO hO'
            subst e1 e2 e3
            exact ⟨rfl, fd_mk (m := m + 1) (tn := 0) (fd_IR_post hI hm hf hmc s1 hWF s5 s6 w1 w2 w3 (tn' := 0) (cn' := cn) (fd_lin0 (tn := tn)) gC hO')⟩
        · show wpY_postAllDifferent _ _
          unfold wpY_postAllDifferent
          exact fd_yg0 hm hf (br_t rfl (br_f hz (br_f (nI_nlt hmc (by omega)) ⟨rfl, fd_mk hI⟩)))
    · exact br_t hm (br_f hf (fd_yf_postAllDifferent hm hf ⟨rfl, fd_mk hI⟩))
  · exact br_f hm (fd_yb_postAllDifferent hm ⟨rfl, fd_mk hI⟩)
theorem i_vc_postReified {k : Nat} {u : SX} {v : SY} (I : i_Rel k u v) (hk : k + 4 ≤ 2051) (v1 : Int32) (v2 : Int32) (v3 : Int32) : wpX_postReified (fun r u' => wpY_postReified (fun r' v' => r' = r ∧ i_Rel (k + 4) u' v') v v1 v2 v3) u v1 v2 v3 := by
  refine fd_el (P := fun u v => wpX_postReified (fun r u' => wpY_postReified (fun r' v' => r' = r ∧ i_Rel (k + 4) u' v') v v1 v2 v3) u v1 v2 v3) I ?_
  intro n m lv tn cn gn mv mc md f_objectiveSlot f_space f_failed f_mode f_found f_exhausted f_hasCurrent f_objective f_pending f_matched f_depth f_guided f_bounded a_dom a_watch a_order a_direction a_termA a_termV a_cellX a_kind a_relation a_constant a_first a_second a_size a_number a_scope a_savedDom a_savedConstraints a_decidedVariable a_decidedValue a_current a_work a_sums a_grown a_image a_mate a_parent a_queue a_reach a_frames a_left f_current a_made a_terms a_goal a_words a_decision a_val a_seen hI
  obtain ⟨q1, q2, q3, q4, q5, q6⟩ := hI.1
  have gT := hI.2.2.1
  have gC := hI.2.2.2.1
  obtain ⟨t1, t2, t3⟩ := gT
  by_cases hm : f_mode = 0
  · by_cases hf : f_failed = 0
    · obtain ⟨hG, hS, htot⟩ := fd_IR_D hI hf
      refine br_t hm (br_t hf ?_)
      rcases fd_isv v1 (n := n) (by omega) with ⟨w, hw, e⟩ | hno
      · subst e
        have ew : (nI w).toNatClampNeg = w := pk_cl w
        have yb : ((v2 < 0 ∨ 3 < v2) ∨ (v3 < -4096 ∨ 4096 < v3)) → wpY_postReified (fun r' v' => r' = -3 ∧ i_Rel (k + 4) (f_objectiveSlot, nI mv, nI mc, nI md, nI n, f_space, f_failed, nI tn, nI cn, nI m, nI lv, f_mode, f_found, f_exhausted, f_hasCurrent, f_objective, f_pending, f_matched, f_depth, f_guided, f_bounded, a_dom, a_watch, a_order, a_direction, a_termA, a_termV, a_cellX, a_kind, a_relation, a_constant, a_first, a_second, a_size, a_number, a_scope, a_savedDom, a_savedConstraints, a_decidedVariable, a_decidedValue, a_current, a_work, a_sums, a_grown, a_image, a_mate, a_parent, a_queue, a_reach, a_frames, a_left) v') (nI mv, nI mc, nI md, nI n, nI m, nI lv, f_failed, nI tn, nI cn, nI gn, f_mode, f_found, f_exhausted, f_current, a_made, a_dom, a_order, a_direction, a_terms, a_cellX, a_goal, a_words, a_savedDom, a_savedConstraints, a_decision, a_val, a_seen) (nI w) v2 v3 := fun hbad => by
          unfold wpY_postReified
          exact fd_yg0 hm hf (br_t rfl (fd_yisv1 (n := n) (by omega) hw (br_f (by decide) (fd_ybad1 hbad (br_f (by decide) ⟨rfl, fd_mk hI⟩)))))
        refine fd_xisv1 (n := n) (by omega) hw (br_f (by decide) ?_)
        rcases fd_isr v2 with ⟨rl, hrl, e⟩ | hnr
        · subst e
          refine fd_xisr1 hrl (br_f (by decide) ?_)
          by_cases c1 : v3 < -4096
          · exact fd_xcon0 (Or.inl c1) (br_t rfl (yb (Or.inr (Or.inl c1))))
          · by_cases c2 : 4096 < v3
            · exact fd_xcon0 (Or.inr c2) (br_t rfl (yb (Or.inr (Or.inr c2))))
            · refine fd_xcon1 c1 c2 (br_f (by decide) ?_)
              have hct := fd_con c1 c2
              rcases Nat.eq_zero_or_pos tn with ht0 | ht0
              · subst ht0
                refine br_t rfl ?_
                show wpY_postReified _ _ _ _ _
                unfold wpY_postReified
                exact fd_yg0 hm hf (br_t rfl (fd_yisv1 (n := n) (by omega) hw (br_f (by decide) (fd_ybad0 hrl c1 c2 (br_t rfl (br_t rfl ⟨rfl, fd_mk hI⟩))))))
              · have hz : ¬ nI tn = 0 := nI_ne0 ht0 (by omega)
                refine br_f hz (fd_xzT t1 (fun j hj e => ?_) (fun hnz => ?_))
                · refine br_f (by decide) ?_
                  show wpY_postReified _ _ _ _ _
                  unfold wpY_postReified
                  exact fd_yg0 hm hf (br_t rfl (fd_yisv1 (n := n) (by omega) hw (br_f (by decide) (fd_ybad0 hrl c1 c2 (br_t rfl (br_f hz (fd_yzT t1 (fun _ _ _ => br_f (by decide) ⟨rfl, fd_mk hI⟩) (fun hx => absurd (by rw [(t2 j hj).2.2.2.2.1]; exact e) (hx j hj)))))))))
                · have ynz : ∀ {post : Int32 → Prop}, post 0 → wpY_zeroTerm post (nI mv, nI mc, nI md, nI n, nI m, nI lv, f_failed, nI tn, nI cn, nI gn, f_mode, f_found, f_exhausted, f_current, a_made, a_dom, a_order, a_direction, a_terms, a_cellX, a_goal, a_words, a_savedDom, a_savedConstraints, a_decision, a_val, a_seen) := fun hp => fd_yzT t1 (fun j hj e => absurd (by rw [← (t2 j hj).2.2.2.2.1]; exact e) (hnz j hj)) (fun _ => hp)
                  refine br_t rfl (fd_xinT t1 (fun j hj e => ?_) (fun hfr => ?_))
                  · refine br_f (by decide) ?_
                    show wpY_postReified _ _ _ _ _
                    unfold wpY_postReified
                    exact fd_yg0 hm hf (br_t rfl (fd_yisv1 (n := n) (by omega) hw (br_f (by decide) (fd_ybad0 hrl c1 c2 (br_t rfl (br_f hz (ynz (br_t rfl ⟨tn + 1, fd_yrei_in (tn := tn) t1 hj (by rw [(t2 j hj).2.2.2.2.2]; exact e) ⟨rfl, fd_mk hI⟩ tn 0 (by omega) (by omega) _ (by omega)⟩))))))))
                  · have hno' : ∀ j, j < tn → a_terms (2 * j + 1) ≠ nI w := fun j hj e => hfr j hj (by rw [← (t2 j hj).2.2.2.2.2]; exact e)
                    have hno2 : ∀ j, j < tn → (a_termV j).toNatClampNeg ≠ w := fun j hj e => hfr j hj (by rw [(t2 j hj).1, e])
                    refine br_t rfl (pk_le tn 2 (fun h2 => pk_lt m mc (fun hmc => ?_) (fun hmc => ?_)) (fun h2 => ?_))
                    · obtain ⟨s1, s2, s3, s4, s5, s6⟩ := fd_slotT (n := n) (tn := tn) (m := m) (a_kind := a_kind) (a_relation := a_relation) (a_constant := a_constant) (a_first := a_first) (a_second := a_second) (a_size := a_size) (a_number := a_number) (a_scope := a_scope) (a_words := a_words) ⟨t1, t2, t3⟩ (by omega) (kd := 2) (R := nI rl) (K := v3) (b := nI w) (r := -1) (by decide)
                      have efi : fd_fi (upd a_kind m 2, upd a_relation m (nI rl), upd a_constant m (v3), upd a_first m (nI w), upd a_second m (-1), upd a_size m (nI tn), fd_sv a_number a_termA (16 * m) tn, fd_sv a_scope a_termV (16 * m) tn) m = w := by
                        show (upd a_first m (nI w) m).toNatClampNeg = w
                        rw [pk_us]; exact ew
                      have hWF : fd_WF n (upd a_kind m 2, upd a_relation m (nI rl), upd a_constant m (v3), upd a_first m (nI w), upd a_second m (-1), upd a_size m (nI tn), fd_sv a_number a_termA (16 * m) tn, fd_sv a_scope a_termV (16 * m) tn) m := by
                        have erl : fd_rl (upd a_kind m 2, upd a_relation m (nI rl), upd a_constant m (v3), upd a_first m (nI w), upd a_second m (-1), upd a_size m (nI tn), fd_sv a_number a_termA (16 * m) tn, fd_sv a_scope a_termV (16 * m) tn) m = rl := by
                          show (upd a_relation m (nI rl) m).toNatClampNeg = rl
                          rw [pk_us]; exact pk_cl rl
                        have ect : fd_ct (upd a_kind m 2, upd a_relation m (nI rl), upd a_constant m (v3), upd a_first m (nI w), upd a_second m (-1), upd a_size m (nI tn), fd_sv a_number a_termA (16 * m) tn, fd_sv a_scope a_termV (16 * m) tn) m = v3.toInt := by
                          show (upd a_constant m v3 m).toInt = _
                          rw [pk_us]
                        refine Or.inr (Or.inl ⟨pk_us, s2, by rw [s3]; exact ht0, ⟨by rw [erl]; exact pk_us, by rw [erl]; exact hrl, by rw [ect]; exact hct.1, by rw [ect]; exact hct.2, fun j hj => ?_⟩, by rw [s3]; exact h2, by rw [efi]; exact hw, by rw [efi]; exact pk_us, fun j hj => ?_⟩)
                        · rw [s3] at hj
                          rw [(s4 j hj).2]
                          exact fd_toI0 (hnz j hj)
                        · rw [s3] at hj
                          rw [(s4 j hj).1, efi]
                          exact hno2 j hj
                      refine fd_xenl (m := m) (by omega) (fd_xtt (by omega) t1 (fd_xwt (tn := tn) (V := fun j => (a_termV j).toNatClampNeg) (by omega) t1 pk_us (fun j hj => ⟨?_, ?_⟩) (fun wt hwt => ?_)))
                      · rw [fd_sv_at, if_pos (by omega)]
                        have e : 16 * m + j - 16 * m = j := by omega
                        rw [e]; exact (t2 j hj).1
                      · have := (t2 j hj).2.1; show (a_termV j).toNatClampNeg < 8; omega
                      · rw [ew]
                        refine ⟨fd_in8 (by omega), fd_in8 (by omega), nm_e ?_⟩
                        have hwt2 : ∀ v i, bt (upd wt w (wt w ||| ((1 : Int32) <<< (nI m &&& 31))) v) i = true ↔ (bt (wt v) i = true ∨ (v = w ∧ i = m)) := fun v i => by
                          by_cases c : v = w
                          · rw [c, pk_us, fd_or1 _ (by omega), Bool.or_eq_true, decide_eq_true_iff]
                            exact ⟨fun z => z.elim Or.inl (fun z => Or.inr ⟨rfl, z⟩), fun z => z.elim Or.inl (fun z => Or.inr z.2)⟩
                          · rw [pk_un c]
                            exact ⟨Or.inl, fun z => z.elim id (fun z => absurd z.1 c)⟩
                        have w1 : ∀ v i, bt (a_watch v) i = true → bt (upd wt w (wt w ||| ((1 : Int32) <<< (nI m &&& 31))) v) i = true := fun v i hb => (hwt2 v i).mpr (Or.inl ((hwt v i).mpr (Or.inl hb)))
                        have w2 : ∀ v, fd_Sc (upd a_kind m 2, upd a_relation m (nI rl), upd a_constant m (v3), upd a_first m (nI w), upd a_second m (-1), upd a_size m (nI tn), fd_sv a_number a_termA (16 * m) tn, fd_sv a_scope a_termV (16 * m) tn) m v → bt (upd wt w (wt w ||| ((1 : Int32) <<< (nI m &&& 31))) v) m = true := fun v hs => by
                          have ek : fd_kd (upd a_kind m 2, upd a_relation m (nI rl), upd a_constant m (v3), upd a_first m (nI w), upd a_second m (-1), upd a_size m (nI tn), fd_sv a_number a_termA (16 * m) tn, fd_sv a_scope a_termV (16 * m) tn) m = 2 := pk_us
                          rcases hs with ⟨a, _⟩ | ⟨_, j, hj, e⟩ | ⟨_, a⟩
                          · rw [ek] at a; exact absurd a (by decide)
                          · rw [s3] at hj
                            exact (hwt2 v m).mpr (Or.inl ((hwt v m).mpr (Or.inr ⟨rfl, j, hj, by rw [← (s4 j hj).1]; exact e⟩)))
                          · rw [efi] at a; exact (hwt2 v m).mpr (Or.inr ⟨a, rfl⟩)
                        have w3 : ∀ v i, v < n → bt (upd wt w (wt w ||| ((1 : Int32) <<< (nI m &&& 31))) v) i = true → bt (a_watch v) i = true ∨ i = m := fun v i _ hb => ((hwt2 v i).mp hb).elim (fun z => ((hwt v i).mp z).elim Or.inl (fun z => Or.inr z.1)) (fun z => Or.inr z.2)
                        obtain ⟨c1', c2', c3', c4'⟩ := fd_post_ctx hI hf hmc s1 hWF s5 s6 w1 w2 w3
                        refine fd_xclosep (n := n) (m := m) (by omega) (by omega) rfl c1' c2' c3' htot (fun r fl dm W' jm j1 j2 j3 j4 j5 j6 j7 hO => ?_)
                        show wpY_postReified _ _ _ _ _
                        unfold wpY_postReified
                        refine fd_yg0 hm hf (br_t rfl (fd_yisv1 (n := n) (by omega) hw (br_f (by decide) (fd_ybad0 hrl c1 c2 (br_t rfl (br_f hz (ynz (br_t rfl ⟨tn + 1, ?_⟩))))))))
                        refine fd_yrei_out (tn := tn) (m := m) (mc := mc) t1 (by omega) (by omega) hno' (fun z => absurd z (by omega)) (fun _ z => absurd z (by omega)) (fun _ _ => ?_) tn 0 (by omega) _ (by omega)
                        refine fd_yadd (n := n) (m := m) (tn := tn) (by decide) (by omega) t1 hf htot c4' (fun r' fl' dm' val sn hO' => ?_)
                        obtain ⟨e1, e2, e3⟩ := fd_Out_un hO hO'
                        subst e1 e2 e3
                        exact ⟨rfl, fd_mk (m := m + 1) (tn := 0) (fd_IR_post hI hm hf hmc s1 hWF s5 s6 w1 w2 w3 (tn' := 0) (cn' := cn) (fd_lin0 (tn := tn)) gC hO')⟩
                    · show wpY_postReified _ _ _ _ _
                      unfold wpY_postReified
                      refine fd_yg0 hm hf (br_t rfl (fd_yisv1 (n := n) (by omega) hw (br_f (by decide) (fd_ybad0 hrl c1 c2 (br_t rfl (br_f hz (ynz (br_t rfl ⟨tn + 1, ?_⟩))))))))
                      exact fd_yrei_out (tn := tn) (m := m) (mc := mc) t1 (by omega) (by omega) hno' (fun z => absurd z (by omega)) (fun _ _ => ⟨rfl, fd_mk hI⟩) (fun _ z => absurd z (by omega)) tn 0 (by omega) _ (by omega)
                    · show wpY_postReified _ _ _ _ _
                      unfold wpY_postReified
                      refine fd_yg0 hm hf (br_t rfl (fd_yisv1 (n := n) (by omega) hw (br_f (by decide) (fd_ybad0 hrl c1 c2 (br_t rfl (br_f hz (ynz (br_t rfl ⟨tn + 1, ?_⟩))))))))
                      exact fd_yrei_out (tn := tn) (m := m) (mc := mc) t1 (by omega) (by omega) hno' (fun _ => ⟨rfl, fd_mk hI⟩) (fun z => absurd z (by omega)) (fun z => absurd z (by omega)) tn 0 (by omega) _ (by omega)
        · exact fd_xisr0 hnr (br_t rfl (yb (Or.inl hnr)))
      · refine fd_xisv0 hno (br_t rfl ?_)
        show wpY_postReified _ _ _ _ _
        unfold wpY_postReified
        exact fd_yg0 hm hf (br_t rfl (fd_yisv0 hno (br_t rfl ⟨rfl, fd_mk hI⟩)))
    · exact br_t hm (br_f hf (fd_yf_postReified hm hf ⟨rfl, fd_mk hI⟩))
  · exact br_f hm (fd_yb_postReified hm ⟨rfl, fd_mk hI⟩)
theorem i_vc_postElement {k : Nat} {u : SX} {v : SY} (I : i_Rel k u v) (hk : k + 4 ≤ 2051) (v1 : Int32) (v2 : Int32) : wpX_postElement (fun r u' => wpY_postElement (fun r' v' => r' = r ∧ i_Rel (k + 4) u' v') v v1 v2) u v1 v2 := by
  refine fd_el (P := fun u v => wpX_postElement (fun r u' => wpY_postElement (fun r' v' => r' = r ∧ i_Rel (k + 4) u' v') v v1 v2) u v1 v2) I ?_
  intro n m lv tn cn gn mv mc md f_objectiveSlot f_space f_failed f_mode f_found f_exhausted f_hasCurrent f_objective f_pending f_matched f_depth f_guided f_bounded a_dom a_watch a_order a_direction a_termA a_termV a_cellX a_kind a_relation a_constant a_first a_second a_size a_number a_scope a_savedDom a_savedConstraints a_decidedVariable a_decidedValue a_current a_work a_sums a_grown a_image a_mate a_parent a_queue a_reach a_frames a_left f_current a_made a_terms a_goal a_words a_decision a_val a_seen hI
  obtain ⟨q1, q2, q3, q4, q5, q6⟩ := hI.1
  have gT := hI.2.2.1
  obtain ⟨cc1, cc2⟩ := hI.2.2.2.1
  by_cases hm : f_mode = 0
  · by_cases hf : f_failed = 0
    · obtain ⟨hG, hS, htot⟩ := fd_IR_D hI hf
      refine br_t hm (br_t hf ?_)
      rcases fd_isv v1 (n := n) (by omega) with ⟨w, hw, e⟩ | hno
      · subst e
        refine fd_xisv1 (n := n) (by omega) hw (br_f (by decide) ?_)
        rcases fd_isv v2 (n := n) (by omega) with ⟨x, hx, e⟩ | hno
        · subst e
          have ew : (nI w).toNatClampNeg = w := pk_cl w
          have ex : (nI x).toNatClampNeg = x := pk_cl x
          refine fd_xisv1 (n := n) (by omega) hx (br_f (by decide) (pk_eq w x (fun e => ?_) (fun hne => ?_)))
          · show wpY_postElement _ _ _ _
            unfold wpY_postElement
            exact fd_yg0 hm hf (br_t rfl (fd_yisv1 (n := n) (by omega) hw (br_f (by decide) (fd_yisv1 (n := n) (by omega) hx (br_f (by decide) (br_t (by rw [e]) ⟨rfl, fd_mk hI⟩))))))
          · have hne' : ¬ nI w = nI x := fun z => hne ((nI_eq (by omega) (by omega)).mp z)
            rcases Nat.eq_zero_or_pos cn with ht0 | ht0
            · subst ht0
              refine br_t rfl ?_
              show wpY_postElement _ _ _ _
              unfold wpY_postElement
              exact fd_yg0 hm hf (br_t rfl (fd_yisv1 (n := n) (by omega) hw (br_f (by decide) (fd_yisv1 (n := n) (by omega) hx (br_f (by decide) (br_f hne' (br_t rfl ⟨rfl, fd_mk hI⟩)))))))
            · have hz : ¬ nI cn = 0 := nI_ne0 ht0 (by omega)
              refine br_f hz (pk_lt m mc (fun hmc => ?_) (fun hmc => ?_))
              · have nA : ∀ j, j < cn → fd_sv a_number a_cellX (16 * m) cn (16 * m + j) = a_cellX j := fun j hj => by
                  rw [fd_sv_at, if_pos (by omega)]; congr 1; omega
                have esz : fd_sz (upd a_kind m 4, upd a_relation m (-1), upd a_constant m 0, upd a_first m (nI w), upd a_second m (nI x), upd a_size m (nI cn), fd_sv a_number a_cellX (16 * m) cn, a_scope) m = cn := by
                  show (upd a_size m (nI cn) m).toNatClampNeg = cn
                  rw [pk_us]; exact pk_cl cn
                have efi : fd_fi (upd a_kind m 4, upd a_relation m (-1), upd a_constant m 0, upd a_first m (nI w), upd a_second m (nI x), upd a_size m (nI cn), fd_sv a_number a_cellX (16 * m) cn, a_scope) m = w := by
                  show (upd a_first m (nI w) m).toNatClampNeg = w
                  rw [pk_us]; exact ew
                have ese : fd_se (upd a_kind m 4, upd a_relation m (-1), upd a_constant m 0, upd a_first m (nI w), upd a_second m (nI x), upd a_size m (nI cn), fd_sv a_number a_cellX (16 * m) cn, a_scope) m = x := by
                  show (upd a_second m (nI x) m).toNatClampNeg = x
                  rw [pk_us]; exact ex
                have s1 : ∀ c, c < 13 → c ≠ m → fd_AG (a_kind, a_relation, a_constant, a_first, a_second, a_size, a_number, a_scope) (upd a_kind m 4, upd a_relation m (-1), upd a_constant m 0, upd a_first m (nI w), upd a_second m (nI x), upd a_size m (nI cn), fd_sv a_number a_cellX (16 * m) cn, a_scope) c := fun c hc hcm => ⟨pk_un hcm, pk_un hcm, pk_un hcm, pk_un hcm, pk_un hcm, pk_un hcm, fun j hj => by
                  show fd_sv a_number a_cellX (16 * m) cn (16 * c + j) = a_number (16 * c + j)
                  rw [fd_sv_at, if_neg (by omega)], fun _ _ => rfl⟩
                have hWF : fd_WF n (upd a_kind m 4, upd a_relation m (-1), upd a_constant m 0, upd a_first m (nI w), upd a_second m (nI x), upd a_size m (nI cn), fd_sv a_number a_cellX (16 * m) cn, a_scope) m := Or.inr (Or.inr (Or.inr ⟨pk_us, by rw [efi]; exact hw, by rw [efi]; exact pk_us, by rw [ese]; exact hx, by rw [ese]; exact pk_us, by rw [efi, ese]; exact hne, by rw [esz]; exact ht0, by rw [esz]; exact cc1, by rw [esz]; exact pk_us, fun j hj => by
                  rw [esz] at hj
                  have e : fd_nu (upd a_kind m 4, upd a_relation m (-1), upd a_constant m 0, upd a_first m (nI w), upd a_second m (nI x), upd a_size m (nI cn), fd_sv a_number a_cellX (16 * m) cn, a_scope) m j = (a_cellX j).toInt := by
                    show (fd_sv a_number a_cellX (16 * m) cn (16 * m + j)).toInt = _
                    rw [nA j hj]
                  rw [e]; exact cc2 j hj⟩))
                have s5 : fd_WD (upd a_kind m 4, upd a_relation m (-1), upd a_constant m 0, upd a_first m (nI w), upd a_second m (nI x), upd a_size m (nI cn), fd_sv a_number a_cellX (16 * m) cn, a_scope) (fd_sv (fd_w6 a_words m 4 (-1) 0 (nI w) (nI x) (nI cn)) a_cellX (22 * m + 6) cn) m := by
                  refine ⟨?_, ?_, ?_, ?_, ?_, ?_, fun hk => ?_, fun _ j hj => ?_⟩
                  · rw [fd_sv_at, if_neg (by omega), fd_w6_0.1]; exact pk_us.symm
                  · rw [fd_sv_at, if_neg (by omega), fd_w6_0.2.1]; exact pk_us.symm
                  · rw [fd_sv_at, if_neg (by omega), fd_w6_0.2.2.1]; exact pk_us.symm
                  · rw [fd_sv_at, if_neg (by omega), fd_w6_0.2.2.2.1]; exact pk_us.symm
                  · rw [fd_sv_at, if_neg (by omega), fd_w6_0.2.2.2.2.1]; exact pk_us.symm
                  · rw [fd_sv_at, if_neg (by omega), fd_w6_0.2.2.2.2.2]; exact pk_us.symm
                  · exact absurd pk_us hk
                  · rw [esz] at hj
                    rw [fd_sv_at, if_pos (by omega)]
                    have e1 : 22 * m + 6 + j - (22 * m + 6) = j := by omega
                    rw [e1]
                    exact (nA j hj).symm
                have s6 : ∀ i, i < 22 * m → fd_sv (fd_w6 a_words m 4 (-1) 0 (nI w) (nI x) (nI cn)) a_cellX (22 * m + 6) cn i = a_words i := fun i hi => by
                  rw [fd_sv_at, if_neg (by omega), fd_w6_n hi]
                refine fd_xenl (m := m) (by omega) (fd_xtc (by omega) cc1 ?_)
                rw [ew, ex]
                refine ⟨fd_in8 (by omega), fd_in8 (by omega), nm_e ⟨fd_in8 (by omega), fd_in8 (by omega), nm_e ?_⟩⟩
                generalize hwt' : upd (upd a_watch w (a_watch w ||| ((1 : Int32) <<< (nI m &&& 31)))) x (upd a_watch w (a_watch w ||| ((1 : Int32) <<< (nI m &&& 31))) x ||| ((1 : Int32) <<< (nI m &&& 31))) = wt
                have hwt : ∀ v i, bt (wt v) i = true ↔ (bt (a_watch v) i = true ∨ (i = m ∧ (v = w ∨ v = x))) := fun v i => by
                  rw [← hwt']
                  by_cases c : v = x
                  · rw [c, pk_us, pk_un (Ne.symm hne), fd_or1 _ (by omega), Bool.or_eq_true, decide_eq_true_iff]
                    exact ⟨fun z => z.elim Or.inl (fun z => Or.inr ⟨z, Or.inr rfl⟩), fun z => z.elim Or.inl (fun z => Or.inr z.1)⟩
                  · rw [pk_un c]
                    by_cases d : v = w
                    · rw [d, pk_us, fd_or1 _ (by omega), Bool.or_eq_true, decide_eq_true_iff]
                      exact ⟨fun z => z.elim Or.inl (fun z => Or.inr ⟨z, Or.inl rfl⟩), fun z => z.elim Or.inl (fun z => Or.inr z.1)⟩
                    · rw [pk_un d]
                      exact ⟨Or.inl, fun z => z.elim id (fun z => z.2.elim (fun y => absurd y d) (fun y => absurd y c))⟩
                have w1 : ∀ v i, bt (a_watch v) i = true → bt (wt v) i = true := fun v i hb => (hwt v i).mpr (Or.inl hb)
                have w2 : ∀ v, fd_Sc (upd a_kind m 4, upd a_relation m (-1), upd a_constant m 0, upd a_first m (nI w), upd a_second m (nI x), upd a_size m (nI cn), fd_sv a_number a_cellX (16 * m) cn, a_scope) m v → bt (wt v) m = true := fun v hs => by
                  have ek : fd_kd (upd a_kind m 4, upd a_relation m (-1), upd a_constant m 0, upd a_first m (nI w), upd a_second m (nI x), upd a_size m (nI cn), fd_sv a_number a_cellX (16 * m) cn, a_scope) m = 4 := pk_us
                  rcases hs with ⟨_, a⟩ | ⟨a, _⟩ | ⟨a, _⟩
                  · rw [efi, ese] at a; exact (hwt v m).mpr (Or.inr ⟨rfl, a⟩)
                  · exact absurd ek a
                  · rw [ek] at a; exact absurd a (by decide)
                have w3 : ∀ v i, v < n → bt (wt v) i = true → bt (a_watch v) i = true ∨ i = m := fun v i _ hb => ((hwt v i).mp hb).elim Or.inl (fun z => Or.inr z.1)
                obtain ⟨c1', c2', c3', c4'⟩ := fd_post_ctx hI hf hmc s1 hWF s5 s6 w1 w2 w3
                refine fd_xclosep (n := n) (m := m) (by omega) (by omega) rfl c1' c2' c3' htot (fun r fl dm W' jm j1 j2 j3 j4 j5 j6 j7 hO => ?_)
                show wpY_postElement _ _ _ _
                unfold wpY_postElement
                refine fd_yg0 hm hf (br_t rfl (fd_yisv1 (n := n) (by omega) hw (br_f (by decide) (fd_yisv1 (n := n) (by omega) hx (br_f (by decide) (br_f hne' (br_f hz (br_t (nI_lt hmc (by omega)) ?_))))))))
                refine fd_yaddE (n := n) (m := m) (cn := cn) (by omega) cc1 hf htot c4' (fun r' fl' dm' val sn hO' => ?_)
                obtain ⟨e1, e2, e3⟩ := fd_Out_un hO hO'
                subst e1 e2 e3
                exact ⟨rfl, fd_mk (m := m + 1) (cn := 0) (fd_IR_post hI hm hf hmc s1 hWF s5 s6 w1 w2 w3 (tn' := tn) (cn' := 0) gT ⟨by omega, fun j hj => absurd hj (by omega)⟩ hO')⟩
              · show wpY_postElement _ _ _ _
                unfold wpY_postElement
                exact fd_yg0 hm hf (br_t rfl (fd_yisv1 (n := n) (by omega) hw (br_f (by decide) (fd_yisv1 (n := n) (by omega) hx (br_f (by decide) (br_f hne' (br_f hz (br_f (nI_nlt hmc (by omega)) ⟨rfl, fd_mk hI⟩))))))))
        · refine fd_xisv0 hno (br_t rfl ?_)
          show wpY_postElement _ _ _ _
          unfold wpY_postElement
          exact fd_yg0 hm hf (br_t rfl (fd_yisv1 (n := n) (by omega) hw (br_f (by decide) (fd_yisv0 hno (br_t rfl ⟨rfl, fd_mk hI⟩)))))
      · refine fd_xisv0 hno (br_t rfl ?_)
        show wpY_postElement _ _ _ _
        unfold wpY_postElement
        exact fd_yg0 hm hf (br_t rfl (fd_yisv0 hno (br_t rfl ⟨rfl, fd_mk hI⟩)))
    · exact br_t hm (br_f hf (fd_yf_postElement hm hf ⟨rfl, fd_mk hI⟩))
  · exact br_f hm (fd_yb_postElement hm ⟨rfl, fd_mk hI⟩)
end
section
/-! ===== begin, value, stat ===== -/
section
variable {n m lv tn cn gn mv mc md : Nat} {f_space f_failed f_mode f_hasCurrent f_objective : Int32} {a_dom a_watch a_order a_direction a_termA a_termV a_cellX a_kind a_relation a_constant a_first a_second a_size a_number a_scope a_savedDom a_savedConstraints a_decidedVariable a_decidedValue a_current : Nat → Int32} {f_current : Int32} {a_made a_terms a_goal a_words a_decision : Nat → Int32} {Z' N' Q' : Nat → Int32}
/-- a search begun or ended: slot 12 written anew -/
theorem fd_IR_srch (hI : fd_IR n m lv tn cn gn mv mc md f_space f_failed f_mode f_hasCurrent f_objective a_dom a_watch a_order a_direction a_termA a_termV a_cellX a_kind a_relation a_constant a_first a_second a_size a_number a_scope a_savedDom a_savedConstraints a_decidedVariable a_decidedValue a_current f_current a_made a_terms a_goal a_words a_decision) (hag : ∀ c, c < 12 → fd_AG (a_kind, a_relation, a_constant, a_first, a_second, a_size, a_number, a_scope) (a_kind, a_relation, a_constant, a_first, a_second, Z', N', Q') c) {gn' tn' : Nat} {md' ob' : Int32} {go' : Nat → Int32} (gT' : fd_GT n tn' a_termA a_termV a_terms) (gM' : fd_GM n gn' (a_kind, a_relation, a_constant, a_first, a_second, Z', N', Q') md' f_failed go') :
    fd_IR n m lv tn' cn gn' mv mc md f_space f_failed md' 0 ob' a_dom a_watch a_order a_direction a_termA a_termV a_cellX a_kind a_relation a_constant a_first a_second Z' N' Q' a_savedDom a_savedConstraints a_decidedVariable a_decidedValue a_current (-1) a_made a_terms go' a_words a_decision := by
  obtain ⟨⟨q1, q2, q3, q4, q5, q6⟩, gV, gT, gC, gK, gD, gL, gM, gU⟩ := hI
  refine ⟨⟨q1, q2, q3, q4, q5, q6⟩, gV, gT', gC, ⟨fun c hc => fd_AG_WF (hag c (by omega)) (gK.1 c hc), fun c hc => fd_AG_WD (hag c (by omega)) (gK.1 c hc) (fun _ _ => rfl) (gK.2.1 c hc), ⟨fun v c hc hs => gK.2.2.1 v c hc (fd_AG_Sc (hag c (by omega)) (fd_WF_sz (gK.1 c hc)) hs), gK.2.2.2⟩⟩, ?_, ⟨fun l hl => ?_, gL.2⟩, gM', Or.inl ⟨rfl, rfl⟩⟩
  · rcases gD with ⟨a, b, c⟩ | x
    · exact Or.inl ⟨a, fd_AG_Good m (fun c hc => hag c (by omega)) gK.1 b, c⟩
    · exact Or.inr x
  · obtain ⟨a, b, d, e, f⟩ := gL.1 l hl
    exact ⟨a, b, fd_AG_Good _ (fun c hc => hag c (by omega)) (fun c hc => gK.1 c (by omega)) d, e, f⟩
/-- slot 12 empty -/
theorem fd_IR_none (hI : fd_IR n m lv tn cn gn mv mc md f_space f_failed f_mode f_hasCurrent f_objective a_dom a_watch a_order a_direction a_termA a_termV a_cellX a_kind a_relation a_constant a_first a_second a_size a_number a_scope a_savedDom a_savedConstraints a_decidedVariable a_decidedValue a_current f_current a_made a_terms a_goal a_words a_decision) {md' : Int32} (hmd : md' = 0 ∨ (md' = 1 ∧ f_failed = 0 ∧ 0 < n)) : fd_IR n m lv tn cn 0 mv mc md f_space f_failed md' 0 0 a_dom a_watch a_order a_direction a_termA a_termV a_cellX a_kind a_relation a_constant a_first a_second (upd a_size 12 0) a_number a_scope a_savedDom a_savedConstraints a_decidedVariable a_decidedValue a_current (-1) a_made a_terms a_goal a_words a_decision := by
  refine fd_IR_srch (Z' := upd a_size 12 0) (N' := a_number) (Q' := a_scope) hI (fun c hc => ⟨rfl, rfl, rfl, rfl, rfl, pk_un (by omega), fun _ _ => rfl, fun _ _ => rfl⟩) hI.2.2.1 ?_
  have esz : fd_sz (a_kind, a_relation, a_constant, a_first, a_second, upd a_size 12 0, a_number, a_scope) 12 = 0 := by
    show (upd a_size 12 0 12).toNatClampNeg = 0
    rw [pk_us]; rfl
  refine ⟨?_, fun x => ?_, ⟨by rw [esz]; omega, by rw [esz]; show upd a_size 12 0 12 = 0; exact pk_us, fun j hj => by rw [esz] at hj; exact absurd hj (by omega), fun i j hi => by rw [esz] at hi; exact absurd hi (by omega)⟩, esz, fun j hj => by rw [esz] at hj; exact absurd hj (by omega), fun _ => rfl⟩
  · rcases hmd with e | e
    · exact Or.inl e
    · exact Or.inr (Or.inl e.1)
  · rcases hmd with e | e
    · exact absurd e x
    · exact e.2
theorem fd_IR_goal (hI : fd_IR n m lv tn cn gn mv mc md f_space f_failed f_mode f_hasCurrent f_objective a_dom a_watch a_order a_direction a_termA a_termV a_cellX a_kind a_relation a_constant a_first a_second a_size a_number a_scope a_savedDom a_savedConstraints a_decidedVariable a_decidedValue a_current f_current a_made a_terms a_goal a_words a_decision) {md' : Int32} (hmd : md' = 2 ∨ md' = 3) (hf : f_failed = 0) (hn0 : 0 < n) : fd_IR n m lv 0 cn tn mv mc md f_space f_failed md' 0 0 a_dom a_watch a_order a_direction a_termA a_termV a_cellX a_kind a_relation a_constant a_first a_second (upd (upd a_size 12 0) 12 (nI tn)) (fd_sv a_number a_termA (16 * 12) tn) (fd_sv a_scope a_termV (16 * 12) tn) a_savedDom a_savedConstraints a_decidedVariable a_decidedValue a_current (-1) a_made a_terms (fd_sv a_goal a_terms 0 (2 * tn)) a_words a_decision := by
  obtain ⟨t1, t2, t3⟩ := hI.2.2.1
  refine fd_IR_srch (Z' := upd (upd a_size 12 0) 12 (nI tn)) (N' := fd_sv a_number a_termA (16 * 12) tn) (Q' := fd_sv a_scope a_termV (16 * 12) tn) hI (fun c hc => ⟨rfl, rfl, rfl, rfl, rfl, ?_, fun j hj => ?_, fun j hj => ?_⟩) (fd_lin0 (tn := tn)) ?_
  · show upd (upd a_size 12 0) 12 (nI tn) c = a_size c
    rw [pk_un (by omega), pk_un (by omega)]
  · show fd_sv a_number a_termA (16 * 12) tn (16 * c + j) = a_number (16 * c + j)
    rw [fd_sv_at, if_neg (by omega)]
  · show fd_sv a_scope a_termV (16 * 12) tn (16 * c + j) = a_scope (16 * c + j)
    rw [fd_sv_at, if_neg (by omega)]
  · have nA : ∀ j, j < tn → fd_sv a_number a_termA (16 * 12) tn (16 * 12 + j) = a_termA j := fun j hj => by
      rw [fd_sv_at, if_pos (by omega)]; congr 1; omega
    have nV : ∀ j, j < tn → fd_sv a_scope a_termV (16 * 12) tn (16 * 12 + j) = a_termV j := fun j hj => by
      rw [fd_sv_at, if_pos (by omega)]; congr 1; omega
    have esz : fd_sz (a_kind, a_relation, a_constant, a_first, a_second, upd (upd a_size 12 0) 12 (nI tn), fd_sv a_number a_termA (16 * 12) tn, fd_sv a_scope a_termV (16 * 12) tn) 12 = tn := by
      show (upd (upd a_size 12 0) 12 (nI tn) 12).toNatClampNeg = tn
      rw [pk_us]; exact pk_cl tn
    have esp : ∀ j, j < tn → fd_sp (a_kind, a_relation, a_constant, a_first, a_second, upd (upd a_size 12 0) 12 (nI tn), fd_sv a_number a_termA (16 * 12) tn, fd_sv a_scope a_termV (16 * 12) tn) 12 j = (a_termV j).toNatClampNeg := fun j hj => by
      show (fd_sv a_scope a_termV (16 * 12) tn (16 * 12 + j)).toNatClampNeg = _
      rw [nV j hj]
    have enu : ∀ j, j < tn → fd_nu (a_kind, a_relation, a_constant, a_first, a_second, upd (upd a_size 12 0) 12 (nI tn), fd_sv a_number a_termA (16 * 12) tn, fd_sv a_scope a_termV (16 * 12) tn) 12 j = (a_termA j).toInt := fun j hj => by
      show (fd_sv a_number a_termA (16 * 12) tn (16 * 12 + j)).toInt = _
      rw [nA j hj]
    refine ⟨Or.inr (Or.inr hmd), fun _ => ⟨hf, hn0⟩, ⟨by rw [esz]; exact t1, by rw [esz]; show upd (upd a_size 12 0) 12 (nI tn) 12 = nI tn; exact pk_us, fun j hj => ?_, fun i j hi hj e => ?_⟩, esz, fun j hj => ?_, fun x => ?_⟩
    · rw [esz] at hj
      rw [esp j hj, enu j hj]
      obtain ⟨a, b, d, e, _⟩ := t2 j hj
      refine ⟨b, ?_, d, e⟩
      show fd_sv a_scope a_termV (16 * 12) tn (16 * 12 + j) = _
      rw [nV j hj]; exact a
    · rw [esz] at hi hj
      rw [esp i hi, esp j hj] at e
      exact t3 i j hi hj e
    · rw [esz] at hj
      obtain ⟨_, _, _, _, a1, a2⟩ := t2 j hj
      rw [fd_sv_at, if_pos (by omega), fd_sv_at, if_pos (by omega)]
      have e1 : 2 * j - 0 = 2 * j := by omega
      have e2 : 2 * j + 1 - 0 = 2 * j + 1 := by omega
      rw [e1, e2, a1, a2]
      exact ⟨(nA j hj).symm, (nV j hj).symm⟩
    · rcases hmd with e | e
      · rw [e] at x; exact absurd x (by decide)
      · rw [e] at x; exact absurd x (by decide)
end
section
variable {f_maxVariables f_maxConstraints f_maxDepth f_vars f_cons f_level f_failed f_termCount f_cellCount f_goalCount f_mode f_found f_exhausted f_current : Int32} {a_made a_dom a_order a_dir a_terms a_cells a_goal a_words a_savedDom a_savedCons a_decision a_val a_seen : Nat → Int32} {post : Int32 → SY → Prop} {tn : Nat}
theorem fd_ybeg90 (ht : tn ≤ 8) (h : post 0 (f_maxVariables, f_maxConstraints, f_maxDepth, f_vars, f_cons, f_level, f_failed, 0, f_cellCount, nI tn, f_mode, f_found, f_exhausted, f_current, a_made, a_dom, a_order, a_dir, a_terms, a_cells, fd_sv a_goal a_terms 0 (2 * tn), a_words, a_savedDom, a_savedCons, a_decision, a_val, a_seen)) : ∀ t i, i + t = 2 * tn → ∀ q, t < q → wY_begin_90 post f_maxVariables f_maxConstraints f_maxDepth f_vars f_cons f_level f_failed (nI tn) f_cellCount f_goalCount f_mode f_found f_exhausted f_current q (nI i) a_made a_dom a_order a_dir a_terms a_cells (fd_sv a_goal a_terms 0 i) a_words a_savedDom a_savedCons a_decision a_val a_seen := by
  have i1 : 2 * nI tn = nI (2 * tn) := pk_mul 2 tn
  intro t
  induction t with
  | zero =>
    intro i hi q hq
    obtain ⟨q, rfl⟩ : ∃ q', q = q' + 1 := ⟨q - 1, by omega⟩
    have e : i = 2 * tn := by omega
    subst e
    exact pk_le (2 * tn) (2 * tn) (fun _ => h) (fun c => absurd c (by omega)) (hx := i1)
  | succ t ih =>
    intro i hi q hq
    obtain ⟨q, rfl⟩ : ∃ q', q = q' + 1 := ⟨q - 1, by omega⟩
    have e : (nI i).toNatClampNeg = i := pk_cl i
    have e0 : fd_sv a_goal a_terms 0 (i + 1) = upd (fd_sv a_goal a_terms 0 i) i (a_terms i) := by
      show upd (fd_sv a_goal a_terms 0 i) (0 + i) (a_terms i) = _
      rw [Nat.zero_add]
    refine pk_le (2 * tn) i (fun c => absurd c (by omega)) (fun _ => ?_) (hx := i1)
    rw [e]
    refine ⟨pk_in i 16 (by omega), pk_in i 16 (by omega), nm_r e0.symm (nm_r (nI_1 i) (ih (i + 1) (by omega) q (by omega)))⟩
end
theorem i_vc_begin {k : Nat} {u : SX} {v : SY} (I : i_Rel k u v) (hk : k + 4 ≤ 2051) (v1 : Int32) : wpX_begin (fun r u' => wpY_begin (fun r' v' => r' = r ∧ i_Rel (k + 4) u' v') v v1) u v1 := by
  refine fd_el (P := fun u v => wpX_begin (fun r u' => wpY_begin (fun r' v' => r' = r ∧ i_Rel (k + 4) u' v') v v1) u v1) I ?_
  intro n m lv tn cn gn mv mc md f_objectiveSlot f_space f_failed f_mode f_found f_exhausted f_hasCurrent f_objective f_pending f_matched f_depth f_guided f_bounded a_dom a_watch a_order a_direction a_termA a_termV a_cellX a_kind a_relation a_constant a_first a_second a_size a_number a_scope a_savedDom a_savedConstraints a_decidedVariable a_decidedValue a_current a_work a_sums a_grown a_image a_mate a_parent a_queue a_reach a_frames a_left f_current a_made a_terms a_goal a_words a_decision a_val a_seen hI
  obtain ⟨q1, q2, q3, q4, q5, q6⟩ := hI.1
  obtain ⟨t1, t2, t3⟩ := hI.2.2.1
  rcases fd_isr v1 with ⟨mo, hmo, e⟩ | hnr
  · subst e
    have p1 : ¬ nI mo < 0 := nI_pos (by omega)
    have p2 : nI mo ≤ 3 := nI_le (b := 3) hmo (by omega)
    refine br_f p1 (br_t p2 ?_)
    rcases Nat.eq_zero_or_pos mo with e | e
    · subst e
      exact br_t rfl (nm_e (br_f p1 (br_t p2 (br_t rfl (br_f (by decide) (br_f (by decide) ⟨rfl, fd_mk (gn := 0) (fd_IR_none hI (Or.inl rfl))⟩))))))
    · have hz : ¬ nI mo = 0 := nI_ne0 e (by omega)
      refine br_f hz ?_
      by_cases hm : f_mode = 0
      · refine br_t hm ?_
        by_cases hf : f_failed = 0
        · refine br_t hf ?_
          rcases Nat.eq_zero_or_pos n with hn0 | hn0
          · subst hn0
            exact br_t rfl (br_f p1 (br_t p2 (br_f hz (fd_yg0 hm hf (br_t rfl (br_t rfl ⟨rfl, fd_mk hI⟩))))))
          · have hnz : ¬ nI n = 0 := nI_ne0 hn0 (by omega)
            refine br_f hnz ?_
            rcases (by omega : mo = 1 ∨ mo = 2 ∨ mo = 3) with e | e | e
            · subst e
              exact br_t rfl (nm_e (br_t rfl (br_f p1 (br_t p2 (br_f hz (fd_yg0 hm hf (br_t rfl (br_f hnz (br_t rfl (br_f (by decide) (br_f (by decide) ⟨rfl, fd_mk (gn := 0) (fd_IR_none hI (Or.inr ⟨rfl, hf, hn0⟩))⟩)))))))))))
            · subst e
              rcases Nat.eq_zero_or_pos tn with ht0 | ht0
              · subst ht0
                exact br_f (by decide) (br_t rfl (br_f p1 (br_t p2 (br_f hz (fd_yg0 hm hf (br_t rfl (br_f hnz (br_f (by decide) (br_t rfl ⟨rfl, fd_mk hI⟩)))))))))
              · have htz : ¬ nI tn = 0 := nI_ne0 ht0 (by omega)
                refine br_f (by decide) (br_f htz (nm_e (br_f (by decide) (fd_xtt (s := 12) (by omega) t1 (br_f p1 (br_t p2 (br_f hz (fd_yg0 hm hf (br_t rfl (br_f hnz (br_f (by decide) (br_f htz (br_t rfl ⟨2 * tn + 1, ?_⟩)))))))))))))
                exact fd_ybeg90 t1 ⟨rfl, fd_mk (tn := 0) (gn := tn) (fd_IR_goal hI (Or.inl rfl) hf hn0)⟩ (2 * tn) 0 (by omega) _ (by omega)
            · subst e
              rcases Nat.eq_zero_or_pos tn with ht0 | ht0
              · subst ht0
                exact br_f (by decide) (br_t rfl (br_f p1 (br_t p2 (br_f hz (fd_yg0 hm hf (br_t rfl (br_f hnz (br_f (by decide) (br_t rfl ⟨rfl, fd_mk hI⟩)))))))))
              · have htz : ¬ nI tn = 0 := nI_ne0 ht0 (by omega)
                refine br_f (by decide) (br_f htz (nm_e (br_f (by decide) (fd_xtt (s := 12) (by omega) t1 (br_f p1 (br_t p2 (br_f hz (fd_yg0 hm hf (br_t rfl (br_f hnz (br_f (by decide) (br_f htz (br_f (by decide) (br_t rfl ⟨2 * tn + 1, ?_⟩))))))))))))))
                exact fd_ybeg90 t1 ⟨rfl, fd_mk (tn := 0) (gn := tn) (fd_IR_goal hI (Or.inr rfl) hf hn0)⟩ (2 * tn) 0 (by omega) _ (by omega)
        · exact br_f hf (br_f p1 (br_t p2 (br_f hz (fd_yg2 hm hf (br_f (by decide) (fd_yg2 hm hf ⟨rfl, fd_mk hI⟩))))))
      · exact br_f hm (br_f p1 (br_t p2 (br_f hz (fd_yg1 hm (br_f (by decide) (fd_yg1 hm ⟨rfl, fd_mk hI⟩))))))
  · by_cases c : v1 < 0
    · exact br_t c (br_t c ⟨rfl, fd_mk hI⟩)
    · have c2 : ¬ v1 ≤ 3 := hnr.elim (fun z => absurd z c) (fun z => fun y => Int32.not_lt.mpr y z)
      exact br_f c (br_f c2 (br_f c (br_f c2 ⟨rfl, fd_mk hI⟩)))
section
variable {n m lv tn cn gn mv mc md : Nat} {f_objectiveSlot f_space f_failed f_mode f_found f_exhausted f_hasCurrent f_objective f_pending : Int32} {f_matched : Int64} {f_depth f_guided f_bounded : Int32} {a_dom a_watch a_order a_direction a_termA a_termV a_cellX a_kind a_relation a_constant a_first a_second a_size a_number a_scope a_savedDom a_savedConstraints a_decidedVariable a_decidedValue a_current a_work a_sums a_grown : Nat → Int32} {a_image : Nat → Int64} {a_mate a_parent a_queue a_reach a_frames a_left : Nat → Int32} {f_current : Int32} {a_made a_terms a_goal a_words a_decision a_val a_seen : Nat → Int32}
/-- Y decodes its current number into X's current solution -/
theorem fd_ycur {post : SY → Prop} (hI : fd_IR n m lv tn cn gn mv mc md f_space f_failed f_mode f_hasCurrent f_objective a_dom a_watch a_order a_direction a_termA a_termV a_cellX a_kind a_relation a_constant a_first a_second a_size a_number a_scope a_savedDom a_savedConstraints a_decidedVariable a_decidedValue a_current f_current a_made a_terms a_goal a_words a_decision) (hc : f_hasCurrent = 1) (h : ∀ val a, fd_In n a_dom a → (∀ v, v < n → val v = nI (a v)) → (∀ v, v < n → a_current v = nI (a v)) → (f_mode ≠ 1 → f_objective.toInt = fd_sum (a_kind, a_relation, a_constant, a_first, a_second, a_size, a_number, a_scope) 12 a) → post (nI mv, nI mc, nI md, nI n, nI m, nI lv, f_failed, nI tn, nI cn, nI gn, f_mode, f_found, f_exhausted, f_current, a_made, a_dom, a_order, a_direction, a_terms, a_cellX, a_goal, a_words, a_savedDom, a_savedConstraints, a_decision, val, a_seen)) : wpY_decode post (nI mv, nI mc, nI md, nI n, nI m, nI lv, f_failed, nI tn, nI cn, nI gn, f_mode, f_found, f_exhausted, f_current, a_made, a_dom, a_order, a_direction, a_terms, a_cellX, a_goal, a_words, a_savedDom, a_savedConstraints, a_decision, a_val, a_seen) f_current := by
  obtain ⟨q1, q2, q3, q4, q5, q6⟩ := hI.1
  obtain ⟨o1, o2, o3, o4, o5⟩ := hI.2.1
  have gM := hI.2.2.2.2.2.2.2.1
  rcases hI.2.2.2.2.2.2.2.2 with ⟨a, _⟩ | ⟨_, hm, a, ha, e, hcur, hob⟩
  · rw [hc] at a; exact absurd a (by decide)
  · have hf := (gM.2.1 hm).1
    obtain ⟨hG, hS, htot⟩ := fd_IR_D hI hf
    suffices H : ∀ x, x = nI (fd_nm n a_dom (fd_or a_order) a_direction a) → wpY_decode post (nI mv, nI mc, nI md, nI n, nI m, nI lv, f_failed, nI tn, nI cn, nI gn, f_mode, f_found, f_exhausted, f_current, a_made, a_dom, a_order, a_direction, a_terms, a_cellX, a_goal, a_words, a_savedDom, a_savedConstraints, a_decision, a_val, a_seen) x from H _ e
    intro x hx
    subst hx
    refine fd_ydecode (n := n) (o := fd_or a_order) (by omega) rfl o1 o2 htot (fd_nm_lt o1 ha) (fun val b hb hnm hval => ?_)
    have hab := fd_nm_inj o1 hb ha hnm
    refine h val a ha (fun v hv => by rw [hval v hv, hab v hv]) hcur hob
end
theorem i_vc_value {k : Nat} {u : SX} {v : SY} (I : i_Rel k u v) (hk : k + 4 ≤ 2051) (v1 : Int32) : wpX_value (fun r => wpY_value (fun r' v' => r' = r ∧ i_Rel (k + 4) u v') v v1) u v1 := by
  refine fd_el (P := fun u v => wpX_value (fun r => wpY_value (fun r' v' => r' = r ∧ i_Rel (k + 4) u v') v v1) u v1) I ?_
  intro n m lv tn cn gn mv mc md f_objectiveSlot f_space f_failed f_mode f_found f_exhausted f_hasCurrent f_objective f_pending f_matched f_depth f_guided f_bounded a_dom a_watch a_order a_direction a_termA a_termV a_cellX a_kind a_relation a_constant a_first a_second a_size a_number a_scope a_savedDom a_savedConstraints a_decidedVariable a_decidedValue a_current a_work a_sums a_grown a_image a_mate a_parent a_queue a_reach a_frames a_left f_current a_made a_terms a_goal a_words a_decision a_val a_seen hI
  obtain ⟨q1, q2, q3, q4, q5, q6⟩ := hI.1
  have gU := hI.2.2.2.2.2.2.2.2
  by_cases hc : f_hasCurrent = 0
  · have e : f_current = -1 := by
      rcases gU with x | x
      · exact x.2
      · rw [hc] at x; exact absurd x.1 (by decide)
    refine br_t hc ?_
    show wpY_value _ _ _
    unfold wpY_value
    rcases fd_isv v1 (n := n) (by omega) with ⟨w, hw, e'⟩ | hno
    · subst e'
      exact fd_yisv1 (n := n) (by omega) hw (br_f (by decide) (br_f (by rw [e]; decide) ⟨rfl, fd_mk hI⟩))
    · exact fd_yisv0 hno (br_t rfl ⟨rfl, fd_mk hI⟩)
  · have hc1 : f_hasCurrent = 1 := by
      rcases gU with x | x
      · exact absurd x.1 hc
      · exact x.1
    have e : 0 ≤ f_current := by
      rcases gU with x | ⟨_, hm, a, ha, e, _⟩
      · exact absurd x.1 hc
      · have hf := (hI.2.2.2.2.2.2.2.1.2.1 hm).1
        obtain ⟨hG, hS, htot⟩ := fd_IR_D hI hf
        have := fd_nm_lt (r := a_direction) hI.2.1.1 ha
        rw [e]; exact nI_pos' (by omega)
    refine br_f hc ?_
    rcases fd_isv v1 (n := n) (by omega) with ⟨w, hw, e'⟩ | hno
    · subst e'
      have ew : (nI w).toNatClampNeg = w := pk_cl w
      refine fd_xisv1 (n := n) (by omega) hw (br_f (by decide) ⟨fd_in8 (by omega), ?_⟩)
      show wpY_value _ _ _
      unfold wpY_value
      refine fd_yisv1 (n := n) (by omega) hw (br_f (by decide) (br_t e (fd_ycur hI hc1 (fun val a ha hval hcur hob => ⟨fd_in8 (by omega), ?_⟩))))
      refine ⟨?_, fd_mk hI⟩
      rw [ew, hval w hw, hcur w hw]
    · refine fd_xisv0 hno (br_t rfl ?_)
      show wpY_value _ _ _
      unfold wpY_value
      exact fd_yisv0 hno (br_t rfl ⟨rfl, fd_mk hI⟩)
theorem i_vc_stat {k : Nat} {u : SX} {v : SY} (I : i_Rel k u v) (hk : k + 4 ≤ 2051) (v1 : Int32) : wpX_stat (fun r => wpY_stat (fun r' v' => r' = r ∧ i_Rel (k + 4) u v') v v1) u v1 := by
  refine fd_el (P := fun u v => wpX_stat (fun r => wpY_stat (fun r' v' => r' = r ∧ i_Rel (k + 4) u v') v v1) u v1) I ?_
  intro n m lv tn cn gn mv mc md f_objectiveSlot f_space f_failed f_mode f_found f_exhausted f_hasCurrent f_objective f_pending f_matched f_depth f_guided f_bounded a_dom a_watch a_order a_direction a_termA a_termV a_cellX a_kind a_relation a_constant a_first a_second a_size a_number a_scope a_savedDom a_savedConstraints a_decidedVariable a_decidedValue a_current a_work a_sums a_grown a_image a_mate a_parent a_queue a_reach a_frames a_left f_current a_made a_terms a_goal a_words a_decision a_val a_seen hI
  obtain ⟨q1, q2, q3, q4, q5, q6⟩ := hI.1
  obtain ⟨o1, o2, o3, o4, o5⟩ := hI.2.1
  have gM := hI.2.2.2.2.2.2.2.1
  have gU := hI.2.2.2.2.2.2.2.2
  by_cases c1 : v1 < 0
  · refine br_t c1 ?_
    have ne : ∀ c : Int32, ¬ c < 0 → ¬ v1 = c := fun c hc e => hc (e ▸ c1)
    exact br_f (ne _ (by decide)) (br_f (ne _ (by decide)) (br_f (ne _ (by decide)) (br_f (ne _ (by decide)) (br_f (ne _ (by decide)) (br_f (ne _ (by decide)) (br_f (ne _ (by decide)) (br_f (ne _ (by decide)) (br_f (ne _ (by decide)) (br_f (ne _ (by decide)) (br_f (ne _ (by decide)) ⟨rfl, fd_mk hI⟩))))))))))
  · by_cases c2 : 10 < v1
    · refine br_f c1 (br_t c2 ?_)
      have ne : ∀ c : Int32, ¬ 10 < c → ¬ v1 = c := fun c hc e => hc (e ▸ c2)
      exact br_f (ne _ (by decide)) (br_f (ne _ (by decide)) (br_f (ne _ (by decide)) (br_f (ne _ (by decide)) (br_f (ne _ (by decide)) (br_f (ne _ (by decide)) (br_f (ne _ (by decide)) (br_f (ne _ (by decide)) (br_f (ne _ (by decide)) (br_f (ne _ (by decide)) (br_f (ne _ (by decide)) ⟨rfl, fd_mk hI⟩))))))))))
    · refine br_f c1 (br_f c2 ?_)
      obtain ⟨j, hj, e⟩ := nI_of2 (M := 10) (n := 10) rfl c1 (Int32.not_lt.mp c2)
      subst e
      rcases (by omega : j = 0 ∨ j = 1 ∨ j = 2 ∨ j = 3 ∨ j = 4 ∨ j = 5 ∨ j = 6 ∨ j = 7 ∨ j = 8 ∨ j = 9 ∨ j = 10) with e | e | e | e | e | e | e | e | e | e | e
      · subst e; exact br_t rfl (br_t rfl ⟨rfl, fd_mk hI⟩)
      · subst e; exact br_f (by decide) (br_t rfl (br_f (by decide) (br_t rfl ⟨rfl, fd_mk hI⟩)))
      · subst e; exact br_f (by decide) (br_f (by decide) (br_t rfl (br_f (by decide) (br_f (by decide) (br_t rfl ⟨rfl, fd_mk hI⟩)))))
      · subst e
        refine br_f (by decide) (br_f (by decide) (br_f (by decide) (br_t rfl ?_)))
        by_cases hf : f_failed = 0
        · exact br_t hf (br_f (by decide) (br_f (by decide) (br_f (by decide) (br_t rfl (br_t hf ⟨rfl, fd_mk hI⟩)))))
        · exact br_f hf (br_f (by decide) (br_f (by decide) (br_f (by decide) (br_t rfl (br_f hf ⟨rfl, fd_mk hI⟩)))))
      · subst e; exact br_f (by decide) (br_f (by decide) (br_f (by decide) (br_f (by decide) (br_t rfl (br_f (by decide) (br_f (by decide) (br_f (by decide) (br_f (by decide) (br_t rfl ⟨rfl, fd_mk hI⟩)))))))))
      · subst e; exact br_f (by decide) (br_f (by decide) (br_f (by decide) (br_f (by decide) (br_f (by decide) (br_t rfl (br_f (by decide) (br_f (by decide) (br_f (by decide) (br_f (by decide) (br_f (by decide) (br_t rfl ⟨rfl, fd_mk hI⟩)))))))))))
      · subst e; exact br_f (by decide) (br_f (by decide) (br_f (by decide) (br_f (by decide) (br_f (by decide) (br_f (by decide) (br_t rfl (br_f (by decide) (br_f (by decide) (br_f (by decide) (br_f (by decide) (br_f (by decide) (br_f (by decide) (br_t rfl ⟨rfl, fd_mk hI⟩)))))))))))))
      · subst e; exact br_f (by decide) (br_f (by decide) (br_f (by decide) (br_f (by decide) (br_f (by decide) (br_f (by decide) (br_f (by decide) (br_t rfl (br_f (by decide) (br_f (by decide) (br_f (by decide) (br_f (by decide) (br_f (by decide) (br_f (by decide) (br_f (by decide) (br_t rfl ⟨rfl, fd_mk hI⟩)))))))))))))))
      · subst e
        refine br_f (by decide) (br_f (by decide) (br_f (by decide) (br_f (by decide) (br_f (by decide) (br_f (by decide) (br_f (by decide) (br_f (by decide) (br_t rfl ?_))))))))
        have yw : ∀ {A : Prop} {post : Int32 → SY → Prop}, (((f_current < 0 → (post (-9999) (nI mv, nI mc, nI md, nI n, nI m, nI lv, f_failed, nI tn, nI cn, nI gn, f_mode, f_found, f_exhausted, f_current, a_made, a_dom, a_order, a_direction, a_terms, a_cellX, a_goal, a_words, a_savedDom, a_savedConstraints, a_decision, a_val, a_seen))) ∧ (¬ f_current < 0 → (((f_mode = 1 → (post (-9999) (nI mv, nI mc, nI md, nI n, nI m, nI lv, f_failed, nI tn, nI cn, nI gn, f_mode, f_found, f_exhausted, f_current, a_made, a_dom, a_order, a_direction, a_terms, a_cellX, a_goal, a_words, a_savedDom, a_savedConstraints, a_decision, a_val, a_seen))) ∧ (¬ f_mode = 1 → (wpY_decode (fun u => wpY_objective (fun r => post r u) u) (nI mv, nI mc, nI md, nI n, nI m, nI lv, f_failed, nI tn, nI cn, nI gn, f_mode, f_found, f_exhausted, f_current, a_made, a_dom, a_order, a_direction, a_terms, a_cellX, a_goal, a_words, a_savedDom, a_savedConstraints, a_decision, a_val, a_seen) f_current))))))) → wpY_stat post (nI mv, nI mc, nI md, nI n, nI m, nI lv, f_failed, nI tn, nI cn, nI gn, f_mode, f_found, f_exhausted, f_current, a_made, a_dom, a_order, a_direction, a_terms, a_cellX, a_goal, a_words, a_savedDom, a_savedConstraints, a_decision, a_val, a_seen) 8 := fun h => br_f (by decide) (br_f (by decide) (br_f (by decide) (br_f (by decide) (br_f (by decide) (br_f (by decide) (br_f (by decide) (br_f (by decide) (br_f (by decide) (br_f (by decide) (br_t rfl h))))))))))
        rcases gU with ⟨x1, x2⟩ | ⟨x1, x2, a, ha, e, hcur, hob⟩
        · have hy : wpY_stat (fun r' v' => r' = -9999 ∧ i_Rel (k + 4) (f_objectiveSlot, nI mv, nI mc, nI md, nI n, f_space, f_failed, nI tn, nI cn, nI m, nI lv, f_mode, f_found, f_exhausted, f_hasCurrent, f_objective, f_pending, f_matched, f_depth, f_guided, f_bounded, a_dom, a_watch, a_order, a_direction, a_termA, a_termV, a_cellX, a_kind, a_relation, a_constant, a_first, a_second, a_size, a_number, a_scope, a_savedDom, a_savedConstraints, a_decidedVariable, a_decidedValue, a_current, a_work, a_sums, a_grown, a_image, a_mate, a_parent, a_queue, a_reach, a_frames, a_left) v') (nI mv, nI mc, nI md, nI n, nI m, nI lv, f_failed, nI tn, nI cn, nI gn, f_mode, f_found, f_exhausted, f_current, a_made, a_dom, a_order, a_direction, a_terms, a_cellX, a_goal, a_words, a_savedDom, a_savedConstraints, a_decision, a_val, a_seen) 8 := yw (A := True) (br_t (by rw [x2]; decide) ⟨rfl, fd_mk hI⟩)
          by_cases h2 : f_mode = 2
          · exact br_t h2 (br_f (by decide) (br_t x1 hy))
          · by_cases h3 : f_mode = 3
            · exact br_f h2 (br_t h3 (br_f (by decide) (br_t x1 hy)))
            · exact br_f h2 (br_f h3 (br_t rfl hy))
        · have hf := (gM.2.1 x2).1
          obtain ⟨hG, hS, htot⟩ := fd_IR_D hI hf
          have hlt := fd_nm_lt (r := a_direction) o1 ha
          have hcn : ¬ f_current < 0 := by rw [e]; exact nI_pos (by omega)
          have hcn0 : ¬ f_hasCurrent = 0 := by rw [x1]; decide
          have fin : f_mode ≠ 1 → wpY_stat (fun r' v' => r' = f_objective ∧ i_Rel (k + 4) (f_objectiveSlot, nI mv, nI mc, nI md, nI n, f_space, f_failed, nI tn, nI cn, nI m, nI lv, f_mode, f_found, f_exhausted, f_hasCurrent, f_objective, f_pending, f_matched, f_depth, f_guided, f_bounded, a_dom, a_watch, a_order, a_direction, a_termA, a_termV, a_cellX, a_kind, a_relation, a_constant, a_first, a_second, a_size, a_number, a_scope, a_savedDom, a_savedConstraints, a_decidedVariable, a_decidedValue, a_current, a_work, a_sums, a_grown, a_image, a_mate, a_parent, a_queue, a_reach, a_frames, a_left) v') (nI mv, nI mc, nI md, nI n, nI m, nI lv, f_failed, nI tn, nI cn, nI gn, f_mode, f_found, f_exhausted, f_current, a_made, a_dom, a_order, a_direction, a_terms, a_cellX, a_goal, a_words, a_savedDom, a_savedConstraints, a_decision, a_val, a_seen) 8 := fun h1 => yw (A := True) (br_f hcn (br_f h1 (fd_ycur hI x1 (fun val b hb hval hcur' hob' => fd_yobj (n := n) (G := (a_kind, a_relation, a_constant, a_first, a_second, a_size, a_number, a_scope)) (a := b) (by omega) gM.2.2.1 gM.2.2.2.2.1 (by rw [gM.2.2.2.1]) hval (fun v hv => fd_lt (hb v hv)) (fun r hr => ⟨Int32.toInt_inj.mp (by rw [hr, hob' h1]), fd_mk hI⟩)))))
          by_cases h2 : f_mode = 2
          · exact br_t h2 (br_f (by decide) (br_f hcn0 (fin (by rw [h2]; decide))))
          · by_cases h3 : f_mode = 3
            · exact br_f h2 (br_t h3 (br_f (by decide) (br_f hcn0 (fin (by rw [h3]; decide)))))
            · have h1 : f_mode = 1 := by
                rcases gM.1 with z | z | z | z
                · exact absurd z x2
                · exact z
                · exact absurd z h2
                · exact absurd z h3
              exact br_f h2 (br_f h3 (br_t rfl (yw (A := True) (br_f hcn (br_t h1 ⟨rfl, fd_mk hI⟩)))))
      · subst e
        refine br_f (by decide) (br_f (by decide) (br_f (by decide) (br_f (by decide) (br_f (by decide) (br_f (by decide) (br_f (by decide) (br_f (by decide) (br_f (by decide) (br_t rfl ?_)))))))))
        by_cases hx : f_exhausted = 0
        · exact br_t hx (br_f (by decide) (br_f (by decide) (br_f (by decide) (br_f (by decide) (br_f (by decide) (br_f (by decide) (br_f (by decide) (br_f (by decide) (br_t rfl (br_t hx ⟨rfl, fd_mk hI⟩))))))))))
        · exact br_f hx (br_f (by decide) (br_f (by decide) (br_f (by decide) (br_f (by decide) (br_f (by decide) (br_f (by decide) (br_f (by decide) (br_f (by decide) (br_t rfl (br_f hx ⟨rfl, fd_mk hI⟩))))))))))
      · subst e
        refine br_f (by decide) (br_f (by decide) (br_f (by decide) (br_f (by decide) (br_f (by decide) (br_f (by decide) (br_f (by decide) (br_f (by decide) (br_f (by decide) (br_f (by decide) (br_t rfl ?_))))))))))
        exact br_f (by decide) (br_f (by decide) (br_f (by decide) (br_f (by decide) (br_f (by decide) (br_f (by decide) (br_f (by decide) (br_f (by decide) (br_f (by decide) (br_t rfl (fd_yspace (n := n) (by omega) rfl ⟨by rw [o4], fd_mk hI⟩))))))))))
end
section
/-! ===== look ===== -/
section
variable {f_maxVariables f_maxConstraints f_maxDepth f_vars f_cons f_level f_failed f_termCount f_cellCount f_goalCount f_mode f_found f_exhausted f_current : Int32} {a_made a_dom a_order a_dir a_terms a_cells a_goal a_words a_savedDom a_savedCons a_decision a_val a_seen : Nat → Int32} {post : Int32 → Prop} {p0 p1 : Int32}
theorem fd_yl140 (h16 : p0 < 16) (h : post (-9999)) : wY_look_140 post p0 p1 f_maxVariables f_maxConstraints f_maxDepth f_vars f_cons f_level f_failed f_termCount f_cellCount f_goalCount f_mode f_found f_exhausted f_current a_made a_dom a_order a_dir a_terms a_cells a_goal a_words a_savedDom a_savedCons a_decision a_val a_seen := br_t h16 h
theorem fd_yl118 (h4 : p0 = 4 → (2 * f_goalCount) ≤ p1) (h : wY_look_140 post p0 p1 f_maxVariables f_maxConstraints f_maxDepth f_vars f_cons f_level f_failed f_termCount f_cellCount f_goalCount f_mode f_found f_exhausted f_current a_made a_dom a_order a_dir a_terms a_cells a_goal a_words a_savedDom a_savedCons a_decision a_val a_seen) : wY_look_118 post p0 p1 f_maxVariables f_maxConstraints f_maxDepth f_vars f_cons f_level f_failed f_termCount f_cellCount f_goalCount f_mode f_found f_exhausted f_current a_made a_dom a_order a_dir a_terms a_cells a_goal a_words a_savedDom a_savedCons a_decision a_val a_seen := br_c (fun e => br_t (h4 e) h) (fun _ => h)
theorem fd_yl98 (h3 : p0 = 3 → f_cellCount ≤ p1) (h : wY_look_118 post p0 p1 f_maxVariables f_maxConstraints f_maxDepth f_vars f_cons f_level f_failed f_termCount f_cellCount f_goalCount f_mode f_found f_exhausted f_current a_made a_dom a_order a_dir a_terms a_cells a_goal a_words a_savedDom a_savedCons a_decision a_val a_seen) : wY_look_98 post p0 p1 f_maxVariables f_maxConstraints f_maxDepth f_vars f_cons f_level f_failed f_termCount f_cellCount f_goalCount f_mode f_found f_exhausted f_current a_made a_dom a_order a_dir a_terms a_cells a_goal a_words a_savedDom a_savedCons a_decision a_val a_seen := br_c (fun e => br_t (h3 e) h) (fun _ => h)
theorem fd_yl76 (h2 : p0 = 2 → (2 * f_termCount) ≤ p1) (h : wY_look_98 post p0 p1 f_maxVariables f_maxConstraints f_maxDepth f_vars f_cons f_level f_failed f_termCount f_cellCount f_goalCount f_mode f_found f_exhausted f_current a_made a_dom a_order a_dir a_terms a_cells a_goal a_words a_savedDom a_savedCons a_decision a_val a_seen) : wY_look_76 post p0 p1 f_maxVariables f_maxConstraints f_maxDepth f_vars f_cons f_level f_failed f_termCount f_cellCount f_goalCount f_mode f_found f_exhausted f_current a_made a_dom a_order a_dir a_terms a_cells a_goal a_words a_savedDom a_savedCons a_decision a_val a_seen := br_c (fun e => br_t (h2 e) h) (fun _ => h)
theorem fd_yl49 (h1 : p0 = 1 → (p1 < 1 ∨ f_level < p1)) (h : wY_look_76 post p0 p1 f_maxVariables f_maxConstraints f_maxDepth f_vars f_cons f_level f_failed f_termCount f_cellCount f_goalCount f_mode f_found f_exhausted f_current a_made a_dom a_order a_dir a_terms a_cells a_goal a_words a_savedDom a_savedCons a_decision a_val a_seen) : wY_look_49 post p0 p1 f_maxVariables f_maxConstraints f_maxDepth f_vars f_cons f_level f_failed f_termCount f_cellCount f_goalCount f_mode f_found f_exhausted f_current a_made a_dom a_order a_dir a_terms a_cells a_goal a_words a_savedDom a_savedCons a_decision a_val a_seen := br_c (fun e => br_c (fun _ => h) (fun c => br_t ((h1 e).elim (fun z => absurd z c) id) h)) (fun _ => h)
theorem fd_yl0 (hp : 0 ≤ p1) (h0 : p0 = 0 → f_vars ≤ p1) (h : wY_look_49 post p0 p1 f_maxVariables f_maxConstraints f_maxDepth f_vars f_cons f_level f_failed f_termCount f_cellCount f_goalCount f_mode f_found f_exhausted f_current a_made a_dom a_order a_dir a_terms a_cells a_goal a_words a_savedDom a_savedCons a_decision a_val a_seen) : wpY_look post (f_maxVariables, f_maxConstraints, f_maxDepth, f_vars, f_cons, f_level, f_failed, f_termCount, f_cellCount, f_goalCount, f_mode, f_found, f_exhausted, f_current, a_made, a_dom, a_order, a_dir, a_terms, a_cells, a_goal, a_words, a_savedDom, a_savedCons, a_decision, a_val, a_seen) p0 p1 := br_t hp (br_c (fun e => br_t (h0 e) h) (fun _ => h))
/-- Y's words of a constraint -/
theorem fd_yl16 {c m i z L : Nat} (hc : c < m) (hm : m ≤ 12) (hi : i < 2 ^ 31) (hz : z ≤ 16) (h16 : ¬ p0 < 16) (hp0 : p0 - 16 = nI c) (hsz : a_words (22 * c + 5) = nI z) (hL : (a_words (22 * c) = 4 ∧ L = 6 + z) ∨ (¬ a_words (22 * c) = 4 ∧ L = 6 + 2 * z)) (hL22 : L ≤ 22) (h0 : L ≤ i → post (-9999)) (h1 : i < L → post (a_words (22 * c + i))) : wY_look_140 post p0 (nI i) f_maxVariables f_maxConstraints f_maxDepth f_vars (nI m) f_level f_failed f_termCount f_cellCount f_goalCount f_mode f_found f_exhausted f_current a_made a_dom a_order a_dir a_terms a_cells a_goal a_words a_savedDom a_savedCons a_decision a_val a_seen := by
  have e0 : nI c * 22 = nI (22 * c) := by
    have e : nI c * 22 = nI (c * 22) := pk_mul c 22
    rw [e, Nat.mul_comm]
  have e5 : nI (22 * c) + 5 = nI (22 * c + 5) := nI_add _ 5
  have c0 : (nI (22 * c)).toNatClampNeg = 22 * c := pk_cl _
  have c5 : (nI (22 * c + 5)).toNatClampNeg = 22 * c + 5 := pk_cl _
  have fin : ∀ {K : Int32}, K = nI L → wY_look_204 post (nI i) (nI (22 * c)) K f_maxVariables f_maxConstraints f_maxDepth f_vars (nI m) f_level f_failed f_termCount f_cellCount f_goalCount f_mode f_found f_exhausted f_current a_made a_dom a_order a_dir a_terms a_cells a_goal a_words a_savedDom a_savedCons a_decision a_val a_seen := fun hK => by
    subst hK
    refine pk_le L i h0 (fun h => ?_)
    have ci : (nI (22 * c + i)).toNatClampNeg = 22 * c + i := pk_cl _
    rw [nI_add, ci]
    exact ⟨pk_in (22 * c + i) 264 (by omega), h1 h⟩
  refine br_f h16 ?_
  rw [hp0]
  refine br_t (nI_lt hc (by omega)) (nm_r e0 ?_)
  rw [e5, c5, c0]
  refine ⟨pk_in (22 * c + 5) 264 (by omega), nm_r hsz ⟨pk_in (22 * c) 264 (by omega), ?_⟩⟩
  rcases hL with ⟨a, b⟩ | ⟨a, b⟩
  · refine br_t a (fin ?_)
    rw [b]; exact nI_add 6 z
  · refine br_f a (fin ?_)
    have : 2 * nI z = nI (2 * z) := pk_mul 2 z
    rw [this, b]; exact nI_add 6 (2 * z)
end
section
variable {f_objectiveSlot f_maxVariables f_maxConstraints f_maxDepth f_variables f_space f_failed f_terms f_cells f_constraints f_level f_mode f_found f_exhausted f_hasCurrent f_objective f_pending : Int32} {f_matched : Int64} {f_depth f_guided f_bounded : Int32} {a_dom a_watch a_order a_direction a_termA a_termV a_cellX a_kind a_relation a_constant a_first a_second a_size a_number a_scope a_savedDom a_savedConstraints a_decidedVariable a_decidedValue a_current a_work a_sums a_grown : Nat → Int32} {a_image : Nat → Int64} {a_mate a_parent a_queue a_reach a_frames a_left : Nat → Int32} {post : Int32 → Prop}
theorem fd_half {t : Nat} (ht : t < 2 ^ 31) : nI t >>> ((1 : Int32) &&& 31) = nI (t / 2) := pk_shrN ht _ 1 (by decide)
theorem fd_odd {t : Nat} (ht : t < 2 ^ 31) : nI t &&& 1 = nI (t % 2) := pk_andN (by omega) 1 (by decide)
theorem fd_xstw {c t z : Nat} (hc : c < 13) (ht : t < 2 ^ 31) (hz : z ≤ 8) (hsz : a_size c = nI z) (h1 : ∀ j, t = 2 * j → j < z → post (a_number (16 * c + j))) (h2 : ∀ j, t = 2 * j + 1 → j < z → post (a_scope (16 * c + j))) (h0 : 2 * z ≤ t → post (-9999)) : wpX_slotTermWord post (f_objectiveSlot, f_maxVariables, f_maxConstraints, f_maxDepth, f_variables, f_space, f_failed, f_terms, f_cells, f_constraints, f_level, f_mode, f_found, f_exhausted, f_hasCurrent, f_objective, f_pending, f_matched, f_depth, f_guided, f_bounded, a_dom, a_watch, a_order, a_direction, a_termA, a_termV, a_cellX, a_kind, a_relation, a_constant, a_first, a_second, a_size, a_number, a_scope, a_savedDom, a_savedConstraints, a_decidedVariable, a_decidedValue, a_current, a_work, a_sums, a_grown, a_image, a_mate, a_parent, a_queue, a_reach, a_frames, a_left) (nI c) (nI t) := by
  have e2 : (nI c).toNatClampNeg = c := pk_cl c
  have ez : 2 * nI z = nI (2 * z) := pk_mul 2 z
  refine ⟨pk_in c 13 hc, ?_⟩
  rw [e2, hsz, ez]
  refine pk_lt t (2 * z) (fun h => ?_) h0
  refine nm_r (e' := nI (16 * c + t / 2)) (by rw [fd_half ht, fd_ix]) ?_
  have e3 : (nI (16 * c + t / 2)).toNatClampNeg = 16 * c + t / 2 := pk_cl _
  rw [fd_odd ht, e3]
  refine pk_eq (t % 2) 0 (fun e => ⟨pk_in (16 * c + t / 2) 208 (by omega), h1 (t / 2) (by omega) (by omega)⟩) (fun e => ⟨pk_in (16 * c + t / 2) 208 (by omega), h2 (t / 2) (by omega) (by omega)⟩)
theorem fd_xcword {n c i : Nat} {wd : Nat → Int32} (w : fd_WF n (a_kind, a_relation, a_constant, a_first, a_second, a_size, a_number, a_scope) c) (hD : fd_WD (a_kind, a_relation, a_constant, a_first, a_second, a_size, a_number, a_scope) wd c) (hc : c < 12) (hi : i < 2 ^ 31) (h0 : (if a_kind c = 4 then 6 + fd_sz (a_kind, a_relation, a_constant, a_first, a_second, a_size, a_number, a_scope) c else 6 + 2 * fd_sz (a_kind, a_relation, a_constant, a_first, a_second, a_size, a_number, a_scope) c) ≤ i → post (-9999)) (h1 : i < (if a_kind c = 4 then 6 + fd_sz (a_kind, a_relation, a_constant, a_first, a_second, a_size, a_number, a_scope) c else 6 + 2 * fd_sz (a_kind, a_relation, a_constant, a_first, a_second, a_size, a_number, a_scope) c) → post (wd (22 * c + i))) : wpX_constraintWord post (f_objectiveSlot, f_maxVariables, f_maxConstraints, f_maxDepth, f_variables, f_space, f_failed, f_terms, f_cells, f_constraints, f_level, f_mode, f_found, f_exhausted, f_hasCurrent, f_objective, f_pending, f_matched, f_depth, f_guided, f_bounded, a_dom, a_watch, a_order, a_direction, a_termA, a_termV, a_cellX, a_kind, a_relation, a_constant, a_first, a_second, a_size, a_number, a_scope, a_savedDom, a_savedConstraints, a_decidedVariable, a_decidedValue, a_current, a_work, a_sums, a_grown, a_image, a_mate, a_parent, a_queue, a_reach, a_frames, a_left) (nI c) (nI i) := by
  obtain ⟨d0, d1, d2, d3, d4, d5, d6, d7⟩ := hD
  have e2 : (nI c).toNatClampNeg = c := pk_cl c
  have hlen : i < 6 → i < (if a_kind c = 4 then 6 + fd_sz (a_kind, a_relation, a_constant, a_first, a_second, a_size, a_number, a_scope) c else 6 + 2 * fd_sz (a_kind, a_relation, a_constant, a_first, a_second, a_size, a_number, a_scope) c) := fun h => by split <;> omega
  refine br_f (nI_pos hi) (pk_lt 5 i (fun h5 => ?_) (fun h5 => ?_))
  · have e6 : nI i - 6 = nI (i - 6) := pk_sub (b := 6) (by omega)
    refine nm_r e6 ⟨pk_in c 13 (by omega), ?_⟩
    rw [e2]
    by_cases hk : a_kind c = 4
    · obtain ⟨w1, f1, w2, f2, w3, w5, w6, hz, w4⟩ := fd_WF4 w hk
      have hz' : a_size c = nI (fd_sz (a_kind, a_relation, a_constant, a_first, a_second, a_size, a_number, a_scope) c) := hz
      rw [if_pos hk] at h0 h1
      refine br_t hk ⟨pk_in c 13 (by omega), ?_⟩
      rw [hz', fd_ix]
      refine pk_le (fd_sz (a_kind, a_relation, a_constant, a_first, a_second, a_size, a_number, a_scope) c) (i - 6) (fun h => h0 (by omega)) (fun h => ?_)
      have e3 : (nI (16 * c + (i - 6))).toNatClampNeg = 16 * c + (i - 6) := pk_cl _
      rw [e3]
      refine ⟨pk_in (16 * c + (i - 6)) 208 (by omega), ?_⟩
      have := h1 (by omega)
      have e4 := d7 hk (i - 6) h
      have e5 : 22 * c + 6 + (i - 6) = 22 * c + i := by omega
      rw [e5] at e4
      rw [e4] at this
      exact this
    · have hT : fd_Tm n (a_kind, a_relation, a_constant, a_first, a_second, a_size, a_number, a_scope) c := by
        rcases fd_kd4 w with k | k | k | k
        · exact (fd_WF1 w k).1
        · exact (fd_WF2 w k).1
        · exact (fd_WF3 w k).1
        · exact absurd k hk
      rw [if_neg hk] at h0 h1
      have h8 := hT.1
      refine br_f hk (fd_xstw (z := fd_sz (a_kind, a_relation, a_constant, a_first, a_second, a_size, a_number, a_scope) c) (by omega) (by omega) h8 hT.2.1 (fun j ej hj => ?_) (fun j ej hj => ?_) (fun h => h0 (by omega)))
      · have := h1 (by omega)
        have e4 := (d6 hk j hj).1
        have e5 : 22 * c + 6 + 2 * j = 22 * c + i := by omega
        rw [e5] at e4
        rw [e4] at this
        exact this
      · have := h1 (by omega)
        have e4 := (d6 hk j hj).2
        have e5 : 22 * c + 6 + 2 * j + 1 = 22 * c + i := by omega
        rw [e5] at e4
        rw [e4] at this
        exact this
  · have hp := h1 (hlen (by omega))
    rcases (by omega : i = 0 ∨ i = 1 ∨ i = 2 ∨ i = 3 ∨ i = 4 ∨ i = 5) with e | e | e | e | e | e
    · subst e
      rw [Nat.add_zero, d0] at hp
      refine br_t rfl ⟨pk_in c 13 (by omega), ?_⟩
      rw [e2]; exact hp
    · subst e
      rw [d1] at hp
      refine br_f (by decide) (br_t rfl ⟨pk_in c 13 (by omega), ?_⟩)
      rw [e2]; exact hp
    · subst e
      rw [d2] at hp
      refine br_f (by decide) (br_f (by decide) (br_t rfl ⟨pk_in c 13 (by omega), ?_⟩))
      rw [e2]; exact hp
    · subst e
      rw [d3] at hp
      refine br_f (by decide) (br_f (by decide) (br_f (by decide) (br_t rfl ⟨pk_in c 13 (by omega), ?_⟩)))
      rw [e2]; exact hp
    · subst e
      rw [d4] at hp
      refine br_f (by decide) (br_f (by decide) (br_f (by decide) (br_f (by decide) (br_t rfl ⟨pk_in c 13 (by omega), ?_⟩))))
      rw [e2]; exact hp
    · subst e
      rw [d5] at hp
      refine br_f (by decide) (br_f (by decide) (br_f (by decide) (br_f (by decide) (br_f (by decide) (br_t rfl ⟨pk_in c 13 (by omega), ?_⟩)))))
      rw [e2]; exact hp
end
theorem i_vc_look {k : Nat} {u : SX} {v : SY} (I : i_Rel k u v) (hk : k + 4 ≤ 2051) (v1 : Int32) (v2 : Int32) : wpX_look (fun r => wpY_look (fun r' => r' = r ∧ i_Rel (k + 4) u v) v v1 v2) u v1 v2 := by
  refine fd_el (P := fun u v => wpX_look (fun r => wpY_look (fun r' => r' = r ∧ i_Rel (k + 4) u v) v v1 v2) u v1 v2) I ?_
  intro n m lv tn cn gn mv mc md f_objectiveSlot f_space f_failed f_mode f_found f_exhausted f_hasCurrent f_objective f_pending f_matched f_depth f_guided f_bounded a_dom a_watch a_order a_direction a_termA a_termV a_cellX a_kind a_relation a_constant a_first a_second a_size a_number a_scope a_savedDom a_savedConstraints a_decidedVariable a_decidedValue a_current a_work a_sums a_grown a_image a_mate a_parent a_queue a_reach a_frames a_left f_current a_made a_terms a_goal a_words a_decision a_val a_seen hI
  obtain ⟨q1, q2, q3, q4, q5, q6⟩ := hI.1
  obtain ⟨o1, o2, o3, o4, o5⟩ := hI.2.1
  obtain ⟨t1, t2, t3⟩ := hI.2.2.1
  obtain ⟨cc1, cc2⟩ := hI.2.2.2.1
  have gK := hI.2.2.2.2.1
  have gL := hI.2.2.2.2.2.2.1
  have gM := hI.2.2.2.2.2.2.2.1
  have rel : i_Rel (k + 4) (f_objectiveSlot, nI mv, nI mc, nI md, nI n, f_space, f_failed, nI tn, nI cn, nI m, nI lv, f_mode, f_found, f_exhausted, f_hasCurrent, f_objective, f_pending, f_matched, f_depth, f_guided, f_bounded, a_dom, a_watch, a_order, a_direction, a_termA, a_termV, a_cellX, a_kind, a_relation, a_constant, a_first, a_second, a_size, a_number, a_scope, a_savedDom, a_savedConstraints, a_decidedVariable, a_decidedValue, a_current, a_work, a_sums, a_grown, a_image, a_mate, a_parent, a_queue, a_reach, a_frames, a_left) (nI mv, nI mc, nI md, nI n, nI m, nI lv, f_failed, nI tn, nI cn, nI gn, f_mode, f_found, f_exhausted, f_current, a_made, a_dom, a_order, a_direction, a_terms, a_cellX, a_goal, a_words, a_savedDom, a_savedConstraints, a_decision, a_val, a_seen) := fd_mk hI
  by_cases hi0 : v2 < 0
  · have hn : ¬ 0 ≤ v2 := Int32.not_le.mpr hi0
    have hy : wpY_look (fun r' => r' = -9999 ∧ i_Rel (k + 4) (f_objectiveSlot, nI mv, nI mc, nI md, nI n, f_space, f_failed, nI tn, nI cn, nI m, nI lv, f_mode, f_found, f_exhausted, f_hasCurrent, f_objective, f_pending, f_matched, f_depth, f_guided, f_bounded, a_dom, a_watch, a_order, a_direction, a_termA, a_termV, a_cellX, a_kind, a_relation, a_constant, a_first, a_second, a_size, a_number, a_scope, a_savedDom, a_savedConstraints, a_decidedVariable, a_decidedValue, a_current, a_work, a_sums, a_grown, a_image, a_mate, a_parent, a_queue, a_reach, a_frames, a_left) (nI mv, nI mc, nI md, nI n, nI m, nI lv, f_failed, nI tn, nI cn, nI gn, f_mode, f_found, f_exhausted, f_current, a_made, a_dom, a_order, a_direction, a_terms, a_cellX, a_goal, a_words, a_savedDom, a_savedConstraints, a_decision, a_val, a_seen)) (nI mv, nI mc, nI md, nI n, nI m, nI lv, f_failed, nI tn, nI cn, nI gn, f_mode, f_found, f_exhausted, f_current, a_made, a_dom, a_order, a_direction, a_terms, a_cellX, a_goal, a_words, a_savedDom, a_savedConstraints, a_decision, a_val, a_seen) v1 v2 := br_f hn ⟨rfl, rel⟩
    exact br_c (fun _ => hy) (fun _ => br_f hn hy)
  · have hp : 0 ≤ v2 := Int32.not_lt.mp hi0
    obtain ⟨i, hi, e⟩ := nI_of hi0
    subst e
    by_cases c0 : v1 < 0
    · refine br_t c0 ?_
      have ne : ∀ c : Int32, ¬ c < 0 → ¬ v1 = c := fun c hc e => hc (e ▸ c0)
      refine fd_yl0 hp (fun e => absurd e (ne _ (by decide))) (fd_yl49 (fun e => absurd e (ne _ (by decide))) (fd_yl76 (fun e => absurd e (ne _ (by decide))) (fd_yl98 (fun e => absurd e (ne _ (by decide))) (fd_yl118 (fun e => absurd e (ne _ (by decide))) (fd_yl140 ?_ ⟨rfl, rel⟩)))))
      rw [Int32.lt_iff_toInt_lt] at c0 ⊢
      have a1 : (0 : Int32).toInt = 0 := rfl
      have a2 : (16 : Int32).toInt = 16 := rfl
      omega
    · obtain ⟨T, hT, e⟩ := nI_of c0
      subst e
      refine br_f c0 (br_t hp (pk_lt T 16 (fun h16 => ?_) (fun h16 => ?_)))
      · refine br_f c0 ?_
        have l16 : nI T < 16 := nI_lt (b := 16) h16 (by omega)
        by_cases hT5 : 4 < T
        · have ne : ∀ c : Nat, c < 5 → ¬ nI T = nI c := fun c hc e => by have := (nI_eq (by omega) (by omega)).mp e; omega
          exact br_t (nI_lt (a := 4) hT5 (by omega)) (fd_yl0 hp (fun e => absurd e (ne 0 (by omega))) (fd_yl49 (fun e => absurd e (ne 1 (by omega))) (fd_yl76 (fun e => absurd e (ne 2 (by omega))) (fd_yl98 (fun e => absurd e (ne 3 (by omega))) (fd_yl118 (fun e => absurd e (ne 4 (by omega))) (fd_yl140 l16 ⟨rfl, rel⟩))))))
        · refine br_f (nI_nlt (a := 4) (b := T) (by omega) (by omega)) ?_
          rcases (by omega : T = 0 ∨ T = 1 ∨ T = 2 ∨ T = 3 ∨ T = 4) with e | e | e | e | e
          · subst e
            refine br_t rfl (pk_lt i n (fun h => ?_) (fun h => fd_yl0 hp (fun _ => nI_le h (by omega)) (fd_yl49 (fun e => absurd e (by decide)) (fd_yl76 (fun e => absurd e (by decide)) (fd_yl98 (fun e => absurd e (by decide)) (fd_yl118 (fun e => absurd e (by decide)) (fd_yl140 l16 ⟨rfl, rel⟩)))))))
            have ei : (nI i).toNatClampNeg = i := pk_cl i
            have hoi := o1.1 i h
            have eo : (nI (fd_or a_order i)).toNatClampNeg = fd_or a_order i := pk_cl _
            refine ⟨pk_in i 8 (by omega), ?_⟩
            rw [ei]
            refine nm_r (o2 i h) ⟨fd_in8 (by omega), ?_⟩
            rw [eo]
            have yw : ∀ {post : Int32 → Prop}, post (if a_direction (fd_or a_order i) = 1 then nI (fd_or a_order i) + 32 else nI (fd_or a_order i)) → wpY_look post (nI mv, nI mc, nI md, nI n, nI m, nI lv, f_failed, nI tn, nI cn, nI gn, f_mode, f_found, f_exhausted, f_current, a_made, a_dom, a_order, a_direction, a_terms, a_cellX, a_goal, a_words, a_savedDom, a_savedConstraints, a_decision, a_val, a_seen) (nI 0) (nI i) := fun hpo => by
              refine br_t hp (br_t rfl (br_f (nI_ge h (by omega)) ⟨pk_in i 8 (by omega), pk_in i 8 (by omega), ?_⟩))
              rw [ei, o2 i h, eo]
              refine ⟨fd_in8 (by omega), ?_⟩
              by_cases c : a_direction (fd_or a_order i) = 1
              · rw [if_pos c] at hpo; exact br_t c hpo
              · rw [if_neg c] at hpo
                refine br_f c ?_
                have : nI (fd_or a_order i) + 0 = nI (fd_or a_order i) := nI_add _ 0
                rw [this]; exact hpo
            by_cases c : a_direction (fd_or a_order i) = 1
            · exact br_t c (yw ⟨by rw [if_pos c], rel⟩)
            · exact br_f c (yw ⟨by rw [if_neg c], rel⟩)
          · subst e
            have ynil : (i < 1 ∨ lv < i) → wpY_look (fun r' => r' = -9999 ∧ i_Rel (k + 4) (f_objectiveSlot, nI mv, nI mc, nI md, nI n, f_space, f_failed, nI tn, nI cn, nI m, nI lv, f_mode, f_found, f_exhausted, f_hasCurrent, f_objective, f_pending, f_matched, f_depth, f_guided, f_bounded, a_dom, a_watch, a_order, a_direction, a_termA, a_termV, a_cellX, a_kind, a_relation, a_constant, a_first, a_second, a_size, a_number, a_scope, a_savedDom, a_savedConstraints, a_decidedVariable, a_decidedValue, a_current, a_work, a_sums, a_grown, a_image, a_mate, a_parent, a_queue, a_reach, a_frames, a_left) (nI mv, nI mc, nI md, nI n, nI m, nI lv, f_failed, nI tn, nI cn, nI gn, f_mode, f_found, f_exhausted, f_current, a_made, a_dom, a_order, a_direction, a_terms, a_cellX, a_goal, a_words, a_savedDom, a_savedConstraints, a_decision, a_val, a_seen)) (nI mv, nI mc, nI md, nI n, nI m, nI lv, f_failed, nI tn, nI cn, nI gn, f_mode, f_found, f_exhausted, f_current, a_made, a_dom, a_order, a_direction, a_terms, a_cellX, a_goal, a_words, a_savedDom, a_savedConstraints, a_decision, a_val, a_seen) (nI 1) (nI i) := fun h => fd_yl0 hp (fun e => absurd e (by decide)) (fd_yl49 (fun _ => h.elim (fun z => Or.inl (nI_lt (b := 1) z (by omega))) (fun z => Or.inr (nI_lt z hi))) (fd_yl76 (fun e => absurd e (by decide)) (fd_yl98 (fun e => absurd e (by decide)) (fd_yl118 (fun e => absurd e (by decide)) (fd_yl140 l16 ⟨rfl, rel⟩)))))
            refine br_f (by decide) (br_t rfl (pk_lt i 1 (fun h => ynil (Or.inl h)) (fun h1 => pk_le i lv (fun h => ?_) (fun h => ynil (Or.inr h)))))
            obtain ⟨j, rfl⟩ : ∃ j, i = j + 1 := ⟨i - 1, by omega⟩
            have e1 : nI (j + 1) - 1 = nI j := nI_pred j
            have ej : (nI j).toNatClampNeg = j := pk_cl j
            have yw : ∀ {post : Int32 → Prop}, post (a_decision j) → wpY_look post (nI mv, nI mc, nI md, nI n, nI m, nI lv, f_failed, nI tn, nI cn, nI gn, f_mode, f_found, f_exhausted, f_current, a_made, a_dom, a_order, a_direction, a_terms, a_cellX, a_goal, a_words, a_savedDom, a_savedConstraints, a_decision, a_val, a_seen) (nI 1) (nI (j + 1)) := fun hpo => by
              refine br_t hp (br_f (by decide) (br_t rfl (br_f (nI_nlt (b := 1) h1 hi) (br_f (nI_nlt h (by omega)) ?_))))
              rw [e1, ej]
              exact ⟨pk_in j 8 (by omega), hpo⟩
            rw [e1, ej]
            obtain ⟨_, _, _, _, hdec⟩ := gL.1 j (by omega)
            rcases hdec with ⟨d1, d2⟩ | ⟨w, d, hw, hd, d1, d2, d3⟩
            · exact ⟨pk_in j 8 (by omega), nm_r d1 (br_f (by decide) (yw ⟨d2, rel⟩))⟩
            · refine ⟨pk_in j 8 (by omega), nm_r d1 (br_t (nI_pos' (by omega)) ⟨pk_in j 8 (by omega), yw ⟨?_, rel⟩⟩)⟩
              rw [d2, d3]
              have : nI w * 32 = nI (w * 32) := pk_mul w 32
              rw [this, nI_add]
          · subst e
            have ez : 2 * nI tn = nI (2 * tn) := pk_mul 2 tn
            refine br_f (by decide) (br_f (by decide) (br_t rfl ?_))
            rw [ez]
            refine pk_lt i (2 * tn) (fun h => ?_) (fun h => fd_yl0 hp (fun e => absurd e (by decide)) (fd_yl49 (fun e => absurd e (by decide)) (fd_yl76 (fun _ => by rw [ez]; exact nI_le h hi) (fd_yl98 (fun e => absurd e (by decide)) (fd_yl118 (fun e => absurd e (by decide)) (fd_yl140 l16 ⟨rfl, rel⟩))))))
            have ei : (nI i).toNatClampNeg = i := pk_cl i
            have e3 : (nI (i / 2)).toNatClampNeg = i / 2 := pk_cl _
            have yw : ∀ {post : Int32 → Prop}, post (a_terms i) → wpY_look post (nI mv, nI mc, nI md, nI n, nI m, nI lv, f_failed, nI tn, nI cn, nI gn, f_mode, f_found, f_exhausted, f_current, a_made, a_dom, a_order, a_direction, a_terms, a_cellX, a_goal, a_words, a_savedDom, a_savedConstraints, a_decision, a_val, a_seen) (nI 2) (nI i) := fun hpo => by
              refine br_t hp (br_f (by decide) (br_f (by decide) (br_t rfl ?_)))
              rw [ez, ei]
              exact br_f (nI_ge h (by omega)) ⟨pk_in i 16 (by omega), hpo⟩
            rw [fd_odd hi, fd_half hi, e3]
            obtain ⟨_, _, _, _, a1, a2⟩ := t2 (i / 2) (by omega)
            refine pk_eq (i % 2) 0 (fun e => ⟨pk_in (i / 2) 8 (by omega), yw ⟨?_, rel⟩⟩) (fun e => ⟨pk_in (i / 2) 8 (by omega), yw ⟨?_, rel⟩⟩)
            · have : i = 2 * (i / 2) := by omega
              rw [← a1, ← this]
            · have : i = 2 * (i / 2) + 1 := by omega
              rw [← a2, ← this]
          · subst e
            refine br_f (by decide) (br_f (by decide) (br_f (by decide) (br_t rfl (pk_le cn i (fun h => fd_yl0 hp (fun e => absurd e (by decide)) (fd_yl49 (fun e => absurd e (by decide)) (fd_yl76 (fun e => absurd e (by decide)) (fd_yl98 (fun _ => nI_le h hi) (fd_yl118 (fun e => absurd e (by decide)) (fd_yl140 l16 ⟨rfl, rel⟩)))))) (fun h => ?_)))))
            have ei : (nI i).toNatClampNeg = i := pk_cl i
            rw [ei]
            refine ⟨pk_in i 16 (by omega), br_t hp (br_f (by decide) (br_f (by decide) (br_f (by decide) (br_t rfl (br_f (nI_ge h (by omega)) ?_)))))⟩
            rw [ei]
            exact ⟨pk_in i 16 (by omega), rfl, rel⟩
          · subst e
            have ez : 2 * nI gn = nI (2 * gn) := pk_mul 2 gn
            obtain ⟨m1, m2, m3, m4, m5, m6⟩ := gM
            have ynil : 2 * gn ≤ i → wpY_look (fun r' => r' = -9999 ∧ i_Rel (k + 4) (f_objectiveSlot, nI mv, nI mc, nI md, nI n, f_space, f_failed, nI tn, nI cn, nI m, nI lv, f_mode, f_found, f_exhausted, f_hasCurrent, f_objective, f_pending, f_matched, f_depth, f_guided, f_bounded, a_dom, a_watch, a_order, a_direction, a_termA, a_termV, a_cellX, a_kind, a_relation, a_constant, a_first, a_second, a_size, a_number, a_scope, a_savedDom, a_savedConstraints, a_decidedVariable, a_decidedValue, a_current, a_work, a_sums, a_grown, a_image, a_mate, a_parent, a_queue, a_reach, a_frames, a_left) (nI mv, nI mc, nI md, nI n, nI m, nI lv, f_failed, nI tn, nI cn, nI gn, f_mode, f_found, f_exhausted, f_current, a_made, a_dom, a_order, a_direction, a_terms, a_cellX, a_goal, a_words, a_savedDom, a_savedConstraints, a_decision, a_val, a_seen)) (nI mv, nI mc, nI md, nI n, nI m, nI lv, f_failed, nI tn, nI cn, nI gn, f_mode, f_found, f_exhausted, f_current, a_made, a_dom, a_order, a_direction, a_terms, a_cellX, a_goal, a_words, a_savedDom, a_savedConstraints, a_decision, a_val, a_seen) (nI 4) (nI i) := fun h => fd_yl0 hp (fun e => absurd e (by decide)) (fd_yl49 (fun e => absurd e (by decide)) (fd_yl76 (fun e => absurd e (by decide)) (fd_yl98 (fun e => absurd e (by decide)) (fd_yl118 (fun _ => by rw [ez]; exact nI_le h hi) (fd_yl140 l16 ⟨rfl, rel⟩)))))
            have h8 : gn ≤ 8 := by rw [← m4]; exact m3.1
            have yw : ∀ {post : Int32 → Prop}, i < 2 * gn → post (a_goal i) → wpY_look post (nI mv, nI mc, nI md, nI n, nI m, nI lv, f_failed, nI tn, nI cn, nI gn, f_mode, f_found, f_exhausted, f_current, a_made, a_dom, a_order, a_direction, a_terms, a_cellX, a_goal, a_words, a_savedDom, a_savedConstraints, a_decision, a_val, a_seen) (nI 4) (nI i) := fun h hpo => by
              have ei : (nI i).toNatClampNeg = i := pk_cl i
              refine br_t hp (br_f (by decide) (br_f (by decide) (br_f (by decide) (br_f (by decide) (br_t rfl ?_)))))
              rw [ez, ei]
              exact br_f (nI_ge h (by omega)) ⟨pk_in i 16 (by omega), hpo⟩
            refine br_f (by decide) (br_f (by decide) (br_f (by decide) (br_f (by decide) (br_t rfl ?_))))
            have xw : wpX_slotTermWord (fun r => wpY_look (fun r' => r' = r ∧ i_Rel (k + 4) (f_objectiveSlot, nI mv, nI mc, nI md, nI n, f_space, f_failed, nI tn, nI cn, nI m, nI lv, f_mode, f_found, f_exhausted, f_hasCurrent, f_objective, f_pending, f_matched, f_depth, f_guided, f_bounded, a_dom, a_watch, a_order, a_direction, a_termA, a_termV, a_cellX, a_kind, a_relation, a_constant, a_first, a_second, a_size, a_number, a_scope, a_savedDom, a_savedConstraints, a_decidedVariable, a_decidedValue, a_current, a_work, a_sums, a_grown, a_image, a_mate, a_parent, a_queue, a_reach, a_frames, a_left) (nI mv, nI mc, nI md, nI n, nI m, nI lv, f_failed, nI tn, nI cn, nI gn, f_mode, f_found, f_exhausted, f_current, a_made, a_dom, a_order, a_direction, a_terms, a_cellX, a_goal, a_words, a_savedDom, a_savedConstraints, a_decision, a_val, a_seen)) (nI mv, nI mc, nI md, nI n, nI m, nI lv, f_failed, nI tn, nI cn, nI gn, f_mode, f_found, f_exhausted, f_current, a_made, a_dom, a_order, a_direction, a_terms, a_cellX, a_goal, a_words, a_savedDom, a_savedConstraints, a_decision, a_val, a_seen) (nI 4) (nI i)) (f_objectiveSlot, nI mv, nI mc, nI md, nI n, f_space, f_failed, nI tn, nI cn, nI m, nI lv, f_mode, f_found, f_exhausted, f_hasCurrent, f_objective, f_pending, f_matched, f_depth, f_guided, f_bounded, a_dom, a_watch, a_order, a_direction, a_termA, a_termV, a_cellX, a_kind, a_relation, a_constant, a_first, a_second, a_size, a_number, a_scope, a_savedDom, a_savedConstraints, a_decidedVariable, a_decidedValue, a_current, a_work, a_sums, a_grown, a_image, a_mate, a_parent, a_queue, a_reach, a_frames, a_left) (nI 12) (nI i) := by
              have hs : a_size 12 = nI gn := by rw [← m4]; exact m3.2.1
              refine fd_xstw (z := gn) (by omega) hi h8 hs (fun j ej hj => yw (by omega) ⟨?_, rel⟩) (fun j ej hj => yw (by omega) ⟨?_, rel⟩) (fun h => ynil h)
              · have := (m5 j (by rw [m4]; exact hj)).1
                rw [ej]; exact this
              · have := (m5 j (by rw [m4]; exact hj)).2
                rw [ej]; exact this
            by_cases h2 : f_mode = 2
            · exact br_t h2 (br_f (by decide) xw)
            · by_cases h3 : f_mode = 3
              · exact br_f h2 (br_t h3 (br_f (by decide) xw))
              · have hg : gn = 0 := m6 (by
                  rcases m1 with z | z | z | z
                  · exact Or.inl z
                  · exact Or.inr z
                  · exact absurd z h2
                  · exact absurd z h3)
                exact br_f h2 (br_f h3 (br_t rfl (ynil (by omega))))
      · have e16 : nI T - 16 = nI (T - 16) := pk_sub (b := 16) h16
        have l16 : ¬ nI T < 16 := nI_nlt (b := 16) h16 hT
        have ne : ∀ c : Nat, c < 5 → ¬ nI T = nI c := fun c hc e => by have := (nI_eq (by omega) (by omega)).mp e; omega
        have yw : ∀ {post : Int32 → Prop}, wY_look_140 post (nI T) (nI i) (nI mv) (nI mc) (nI md) (nI n) (nI m) (nI lv) f_failed (nI tn) (nI cn) (nI gn) f_mode f_found f_exhausted f_current a_made a_dom a_order a_direction a_terms a_cellX a_goal a_words a_savedDom a_savedConstraints a_decision a_val a_seen → wpY_look post (nI mv, nI mc, nI md, nI n, nI m, nI lv, f_failed, nI tn, nI cn, nI gn, f_mode, f_found, f_exhausted, f_current, a_made, a_dom, a_order, a_direction, a_terms, a_cellX, a_goal, a_words, a_savedDom, a_savedConstraints, a_decision, a_val, a_seen) (nI T) (nI i) := fun h => fd_yl0 hp (fun e => absurd e (ne 0 (by omega))) (fd_yl49 (fun e => absurd e (ne 1 (by omega))) (fd_yl76 (fun e => absurd e (ne 2 (by omega))) (fd_yl98 (fun e => absurd e (ne 3 (by omega))) (fd_yl118 (fun e => absurd e (ne 4 (by omega))) h))))
        refine nm_r e16 (pk_le m (T - 16) (fun h => yw (br_f l16 ?_)) (fun h => ?_))
        · rw [e16]; exact br_f (nI_nlt h (by omega)) ⟨rfl, rel⟩
        · have w := gK.1 (T - 16) h
          have hD := gK.2.1 (T - 16) h
          have hz16 := fd_WF_sz w
          have hszI : a_size (T - 16) = nI (fd_sz (a_kind, a_relation, a_constant, a_first, a_second, a_size, a_number, a_scope) (T - 16)) := by
            rcases fd_kd4 w with k | k | k | k
            · exact (fd_WF1 w k).1.2.1
            · exact (fd_WF2 w k).1.2.1
            · exact (fd_WF3 w k).1.2.1
            · exact (fd_WF4 w k).2.2.2.2.2.2.2.1
          have hL22 : (if a_kind (T - 16) = 4 then 6 + fd_sz (a_kind, a_relation, a_constant, a_first, a_second, a_size, a_number, a_scope) (T - 16) else 6 + 2 * fd_sz (a_kind, a_relation, a_constant, a_first, a_second, a_size, a_number, a_scope) (T - 16)) ≤ 22 := by
            by_cases hk4 : a_kind (T - 16) = 4
            · rw [if_pos hk4]; omega
            · rw [if_neg hk4]
              rcases fd_kd4 w with k | k | k | k
              · have := (fd_WF1 w k).1.1; omega
              · have := (fd_WF2 w k).1.1; omega
              · have := (fd_WF3 w k).1.1; omega
              · exact absurd k hk4
          have hL : (a_words (22 * (T - 16)) = 4 ∧ (if a_kind (T - 16) = 4 then 6 + fd_sz (a_kind, a_relation, a_constant, a_first, a_second, a_size, a_number, a_scope) (T - 16) else 6 + 2 * fd_sz (a_kind, a_relation, a_constant, a_first, a_second, a_size, a_number, a_scope) (T - 16)) = 6 + fd_sz (a_kind, a_relation, a_constant, a_first, a_second, a_size, a_number, a_scope) (T - 16)) ∨ (¬ a_words (22 * (T - 16)) = 4 ∧ (if a_kind (T - 16) = 4 then 6 + fd_sz (a_kind, a_relation, a_constant, a_first, a_second, a_size, a_number, a_scope) (T - 16) else 6 + 2 * fd_sz (a_kind, a_relation, a_constant, a_first, a_second, a_size, a_number, a_scope) (T - 16)) = 6 + 2 * fd_sz (a_kind, a_relation, a_constant, a_first, a_second, a_size, a_number, a_scope) (T - 16)) := by
            have e0 : a_words (22 * (T - 16)) = a_kind (T - 16) := hD.1
            rw [e0]
            by_cases hk4 : a_kind (T - 16) = 4
            · exact Or.inl ⟨hk4, if_pos hk4⟩
            · exact Or.inr ⟨hk4, if_neg hk4⟩
          refine fd_xcword (n := n) (wd := a_words) w hD (by omega) hi (fun hle => yw ?_) (fun hlt => yw ?_)
          · exact fd_yl16 (c := T - 16) (m := m) (z := fd_sz (a_kind, a_relation, a_constant, a_first, a_second, a_size, a_number, a_scope) (T - 16)) h (by omega) hi hz16 l16 e16 (hD.2.2.2.2.2.1.trans hszI) hL hL22 (fun _ => ⟨rfl, rel⟩) (fun z => absurd z (by omega))
          · exact fd_yl16 (c := T - 16) (m := m) (z := fd_sz (a_kind, a_relation, a_constant, a_first, a_second, a_size, a_number, a_scope) (T - 16)) h (by omega) hi hz16 l16 e16 (hD.2.2.2.2.2.1.trans hszI) hL hL22 (fun z => absurd z (by omega)) (fun _ => ⟨rfl, rel⟩)
end
section
/-! ===== entailed ===== -/
theorem fd_not1 {m : Int32} {d : Nat} (hm : m ≠ 0) (h : ¬ ∀ i, bt m i = true ↔ i = d) : ∃ e, bt m e = true ∧ e ≠ d := by
  apply Classical.byContradiction
  intro c
  apply h
  have all : ∀ i, bt m i = true → i = d := fun i hi => Classical.byContradiction (fun x => c ⟨i, hi, x⟩)
  obtain ⟨k, hk⟩ := fd_ne0.mp hm
  intro i
  refine ⟨all i, fun e => ?_⟩
  rw [e, ← all k hk]; exact hk
theorem fd_mask1 {m : Int32} {d : Nat} (hd : d < 32) (h : ∀ i, bt m i = true ↔ i = d) : m = (1 : Int32) <<< (nI d &&& 31) := by
  apply b_ext
  intro i _
  rw [fd_b1 hd]
  cases e : bt m i with
  | true => rw [(h i).mp e]; exact (decide_eq_true rfl).symm
  | false => exact (decide_eq_false (fun x => by rw [(h i).mpr x] at e; exact absurd e (by decide))).symm
section
variable {f_objectiveSlot f_maxVariables f_maxConstraints f_maxDepth f_variables f_space f_failed f_terms f_cells f_constraints f_level f_mode f_found f_exhausted f_hasCurrent f_objective f_pending : Int32} {f_matched : Int64} {f_depth f_guided f_bounded : Int32} {a_dom a_watch a_order a_direction a_termA a_termV a_cellX a_kind a_relation a_constant a_first a_second a_size a_number a_scope a_savedDom a_savedConstraints a_decidedVariable a_decidedValue a_current a_work a_sums a_grown : Nat → Int32} {a_image : Nat → Int64} {a_mate a_parent a_queue a_reach a_frames a_left : Nat → Int32} {n c : Nat}
theorem fd_xaR {post : Int32 → SX → Prop} (w : fd_WF n (a_kind, a_relation, a_constant, a_first, a_second, a_size, a_number, a_scope) c) (hkd : fd_kd (a_kind, a_relation, a_constant, a_first, a_second, a_size, a_number, a_scope) c = 2) (hn : n ≤ 8) (hc : c < 13) (hW : fd_NE n a_work) (hsp : fd_tot n a_work ≤ 1024)
    (h : ∀ r S g, ((r = 1 ∧ ∀ a, fd_In n a_work a → fd_H (a_kind, a_relation, a_constant, a_first, a_second, a_size, a_number, a_scope) c a) ∨ (r = 0 ∧ ∃ a, fd_In n a_work a ∧ ¬ fd_H (a_kind, a_relation, a_constant, a_first, a_second, a_size, a_number, a_scope) c a)) → post r (f_objectiveSlot, f_maxVariables, f_maxConstraints, f_maxDepth, f_variables, f_space, f_failed, f_terms, f_cells, f_constraints, f_level, f_mode, f_found, f_exhausted, f_hasCurrent, f_objective, f_pending, f_matched, f_depth, f_guided, f_bounded, a_dom, a_watch, a_order, a_direction, a_termA, a_termV, a_cellX, a_kind, a_relation, a_constant, a_first, a_second, a_size, a_number, a_scope, a_savedDom, a_savedConstraints, a_decidedVariable, a_decidedValue, a_current, a_work, S, g, a_image, a_mate, a_parent, a_queue, a_reach, a_frames, a_left)) : wpX_alwaysReified post (f_objectiveSlot, f_maxVariables, f_maxConstraints, f_maxDepth, f_variables, f_space, f_failed, f_terms, f_cells, f_constraints, f_level, f_mode, f_found, f_exhausted, f_hasCurrent, f_objective, f_pending, f_matched, f_depth, f_guided, f_bounded, a_dom, a_watch, a_order, a_direction, a_termA, a_termV, a_cellX, a_kind, a_relation, a_constant, a_first, a_second, a_size, a_number, a_scope, a_savedDom, a_savedConstraints, a_decidedVariable, a_decidedValue, a_current, a_work, a_sums, a_grown, a_image, a_mate, a_parent, a_queue, a_reach, a_frames, a_left) (nI c) := by
  obtain ⟨hT, hz1, ⟨l1, l2, l3, l4, l5⟩, hz2, hb, hfi, hbn⟩ := fd_WF2 w hkd
  have e2 : (nI c).toNatClampNeg = c := pk_cl c
  have f1 : a_first c = nI (fd_fi (a_kind, a_relation, a_constant, a_first, a_second, a_size, a_number, a_scope) c) := hfi
  have f2 : a_relation c = nI (fd_rl (a_kind, a_relation, a_constant, a_first, a_second, a_size, a_number, a_scope) c) := l1
  have eF : (nI (fd_fi (a_kind, a_relation, a_constant, a_first, a_second, a_size, a_number, a_scope) c)).toNatClampNeg = fd_fi (a_kind, a_relation, a_constant, a_first, a_second, a_size, a_number, a_scope) c := pk_cl _
  have kb := fd_ok_bd (rl := fd_rl (a_kind, a_relation, a_constant, a_first, a_second, a_size, a_number, a_scope) c) ⟨l3, l4⟩
  have hne := hW _ hb
  refine ⟨pk_in c 13 hc, ?_⟩
  rw [e2, f1, eF]
  refine nm_r f2 ⟨pk_in c 13 hc, nm_e ⟨pk_in c 13 hc, fd_in8 (by omega), nm_e ?_⟩⟩
  by_cases c2 : a_work (fd_fi (a_kind, a_relation, a_constant, a_first, a_second, a_size, a_number, a_scope) c) = 2
  · refine br_t c2 (fd_xalways (rl := fd_rl (a_kind, a_relation, a_constant, a_first, a_second, a_size, a_number, a_scope) c) (k := fd_ct (a_kind, a_relation, a_constant, a_first, a_second, a_size, a_number, a_scope) c) hT hn hc hz1 rfl l2 rfl (by omega) hW hsp (fun r S g hr => ?_))
    have only : ∀ a, fd_In n a_work a → a (fd_fi (a_kind, a_relation, a_constant, a_first, a_second, a_size, a_number, a_scope) c) = 1 := fun a ha => by
      have := ha _ hb
      rw [c2] at this; exact (fd_bt2 _).mp this
    rcases hr with ⟨rfl, hall⟩ | ⟨rfl, a, ha, hno⟩
    · exact ⟨narrow_b1, h 1 S g (Or.inl ⟨rfl, fun a ha => (fd_H2 hkd).mpr (Or.inl ⟨only a ha, hall a ha⟩)⟩)⟩
    · refine ⟨narrow_b0, h 0 S g (Or.inr ⟨rfl, a, ha, fun hH => ?_⟩)⟩
      rcases (fd_H2 hkd).mp hH with ⟨_, q⟩ | ⟨q, _⟩
      · exact hno q
      · have := only a ha; omega
  · refine br_f c2 ?_
    by_cases c1 : a_work (fd_fi (a_kind, a_relation, a_constant, a_first, a_second, a_size, a_number, a_scope) c) = 1
    · rw [fd_ol_x l2]
      refine br_t c1 (fd_xopp (k := fd_ct (a_kind, a_relation, a_constant, a_first, a_second, a_size, a_number, a_scope) c) l2 rfl ⟨l3, l4⟩ (fun K' hK' => fd_xalways (rl := fd_ol (fd_rl (a_kind, a_relation, a_constant, a_first, a_second, a_size, a_number, a_scope) c)) hT hn hc hz1 rfl (fd_ol_le _) hK' (by omega) hW hsp (fun r S g hr => ?_)))
      have only : ∀ a, fd_In n a_work a → a (fd_fi (a_kind, a_relation, a_constant, a_first, a_second, a_size, a_number, a_scope) c) = 0 := fun a ha => by
        have := ha _ hb
        rw [c1] at this; exact (fd_bt1 _).mp this
      rcases hr with ⟨rfl, hall⟩ | ⟨rfl, a, ha, hno⟩
      · exact ⟨narrow_b1, h 1 S g (Or.inl ⟨rfl, fun a ha => (fd_H2 hkd).mpr (Or.inr ⟨only a ha, (fd_opp l2).mp (hall a ha)⟩)⟩)⟩
      · refine ⟨narrow_b0, h 0 S g (Or.inr ⟨rfl, a, ha, fun hH => ?_⟩)⟩
        rcases (fd_H2 hkd).mp hH with ⟨q, _⟩ | ⟨_, q⟩
        · have := only a ha; omega
        · exact hno ((fd_opp l2).mpr q)
    · refine br_f c1 (h 0 _ _ (Or.inr ⟨rfl, ?_⟩))
      have i0 := fd_In_lo hW
      by_cases hr : fd_rel (fd_rl (a_kind, a_relation, a_constant, a_first, a_second, a_size, a_number, a_scope) c) (fd_sum (a_kind, a_relation, a_constant, a_first, a_second, a_size, a_number, a_scope) c (fun v => fd_lo (a_work v))) (fd_ct (a_kind, a_relation, a_constant, a_first, a_second, a_size, a_number, a_scope) c)
      · obtain ⟨d, hd, hd1⟩ := fd_not1 hne (d := 1) (fun x => c2 (fd_mask1 (d := 1) (by omega) x))
        refine ⟨_, fd_In_up i0 hd, fun hH => ?_⟩
        rcases (fd_H2 hkd).mp hH with ⟨q, _⟩ | ⟨_, q⟩
        · rw [fd_up_s] at q; exact hd1 q
        · rw [fd_sum_up hbn] at q; exact q hr
      · obtain ⟨d, hd, hd0⟩ := fd_not1 hne (d := 0) (fun x => c1 (fd_mask1 (d := 0) (by omega) x))
        refine ⟨_, fd_In_up i0 hd, fun hH => ?_⟩
        rcases (fd_H2 hkd).mp hH with ⟨_, q⟩ | ⟨q, _⟩
        · rw [fd_sum_up hbn] at q; exact hr q
        · rw [fd_up_s] at q; exact hd0 q
theorem fd_xaD5 {post : Int32 → Prop} (w : fd_WF n (a_kind, a_relation, a_constant, a_first, a_second, a_size, a_number, a_scope) c) (hkd : fd_kd (a_kind, a_relation, a_constant, a_first, a_second, a_size, a_number, a_scope) c = 3) (hn : n ≤ 8) (hc : c < 13) (hW : fd_NE n a_work) (h1 : (∀ a, fd_In n a_work a → fd_H (a_kind, a_relation, a_constant, a_first, a_second, a_size, a_number, a_scope) c a) → post 1) (h0 : (∃ a, fd_In n a_work a ∧ ¬ fd_H (a_kind, a_relation, a_constant, a_first, a_second, a_size, a_number, a_scope) c a) → post 0) :
    ∀ t j, j + t = fd_sz (a_kind, a_relation, a_constant, a_first, a_second, a_size, a_number, a_scope) c → ∀ s : Int64, (∀ x, fd_bl s x = true ↔ ∃ i, i < j ∧ fd_I (a_kind, a_relation, a_constant, a_first, a_second, a_size, a_number, a_scope) c a_work i x) → (∀ i i' x, i < i' → i' < j → fd_I (a_kind, a_relation, a_constant, a_first, a_second, a_size, a_number, a_scope) c a_work i x → ¬ fd_I (a_kind, a_relation, a_constant, a_first, a_second, a_size, a_number, a_scope) c a_work i' x) → ∀ q, t < q → wX_alwaysDifferent_5 post (nI c) f_objectiveSlot f_maxVariables f_maxConstraints f_maxDepth f_variables f_space f_failed f_terms f_cells f_constraints f_level f_mode f_found f_exhausted f_hasCurrent f_objective f_pending f_matched f_depth f_guided f_bounded a_dom a_watch a_order a_direction a_termA a_termV a_cellX a_kind a_relation a_constant a_first a_second a_size a_number a_scope a_savedDom a_savedConstraints a_decidedVariable a_decidedValue a_current a_work a_sums a_grown a_image a_mate a_parent a_queue a_reach a_frames a_left q s (nI j) := by
  obtain ⟨hT, hz1⟩ := fd_WF3 w hkd
  have h8 := hT.1
  have e2 : (nI c).toNatClampNeg = c := pk_cl c
  have hsz : a_size c = nI (fd_sz (a_kind, a_relation, a_constant, a_first, a_second, a_size, a_number, a_scope) c) := hT.2.1
  intro t
  induction t with
  | zero =>
    intro j hj s hs hd q hq
    obtain ⟨q, rfl⟩ : ∃ q', q = q' + 1 := ⟨q - 1, by omega⟩
    refine ⟨pk_in c 13 hc, ?_⟩
    rw [e2, hsz]
    refine pk_le (fd_sz (a_kind, a_relation, a_constant, a_first, a_second, a_size, a_number, a_scope) c) j (fun _ => h1 (fun a ha => (fd_H3 hkd).mpr (fun i i' hii hi' e => ?_))) (fun c => absurd c (by omega))
    have o1 := (fd_of_le hT (j := i) (by omega)).2
    have o2 := (fd_of_le hT hi').2
    have e' : a (fd_sp (a_kind, a_relation, a_constant, a_first, a_second, a_size, a_number, a_scope) c i) + fd_of (a_kind, a_relation, a_constant, a_first, a_second, a_size, a_number, a_scope) c i = a (fd_sp (a_kind, a_relation, a_constant, a_first, a_second, a_size, a_number, a_scope) c i') + fd_of (a_kind, a_relation, a_constant, a_first, a_second, a_size, a_number, a_scope) c i' := by omega
    have I1 : fd_I (a_kind, a_relation, a_constant, a_first, a_second, a_size, a_number, a_scope) c a_work i (a (fd_sp (a_kind, a_relation, a_constant, a_first, a_second, a_size, a_number, a_scope) c i) + fd_of (a_kind, a_relation, a_constant, a_first, a_second, a_size, a_number, a_scope) c i) := ⟨Nat.le_add_left _ _, by rw [Nat.add_sub_cancel]; exact ha _ (hT.2.2.1 i (by omega)).1⟩
    have I2 : fd_I (a_kind, a_relation, a_constant, a_first, a_second, a_size, a_number, a_scope) c a_work i' (a (fd_sp (a_kind, a_relation, a_constant, a_first, a_second, a_size, a_number, a_scope) c i') + fd_of (a_kind, a_relation, a_constant, a_first, a_second, a_size, a_number, a_scope) c i') := ⟨Nat.le_add_left _ _, by rw [Nat.add_sub_cancel]; exact ha _ (hT.2.2.1 i' hi').1⟩
    rw [← e'] at I2
    exact hd i i' _ hii (by omega) I1 I2
  | succ t ih =>
    intro j hj s hs hd q hq
    obtain ⟨q, rfl⟩ : ∃ q', q = q' + 1 := ⟨q - 1, by omega⟩
    have hjz : j < fd_sz (a_kind, a_relation, a_constant, a_first, a_second, a_size, a_number, a_scope) c := by omega
    refine ⟨pk_in c 13 hc, ?_⟩
    rw [e2, hsz]
    refine pk_le (fd_sz (a_kind, a_relation, a_constant, a_first, a_second, a_size, a_number, a_scope) c) j (fun c => absurd c (by omega)) (fun _ => fd_xshifted (n := n) hT hn hc hjz (fun y hy => ?_))
    by_cases z : (s &&& y) = 0
    · refine br_t z (nm_e (nm_r (nI_1 j) (ih (j + 1) (by omega) _ (fun x => ?_) (fun i i' x hii hi' a b => ?_) q (by omega))))
      · rw [fd_lor, Bool.or_eq_true, hs x, hy x]
        constructor
        · rintro (⟨i, hi, a⟩ | a)
          · exact ⟨i, by omega, a⟩
          · exact ⟨j, by omega, a⟩
        · rintro ⟨i, hi, a⟩
          by_cases e : i = j
          · rw [e] at a; exact Or.inr a
          · exact Or.inl ⟨i, by omega, a⟩
      · by_cases e : i' = j
        · rw [e] at b hii
          have := fd_leq0.mp z x
          rw [fd_land, (hs x).mpr ⟨i, hii, a⟩, (hy x).mpr b] at this
          exact absurd this (by decide)
        · exact hd i i' x hii (by omega) a b
    · obtain ⟨x, hx⟩ := fd_lne0.mp z
      rw [fd_land, Bool.and_eq_true, hs x, hy x] at hx
      obtain ⟨⟨i, hi, I1⟩, I2⟩ := hx
      refine br_f z (h0 ?_)
      obtain ⟨a, ha, hv⟩ := fd_asg hT hW (fun k => if k = i then x - fd_of (a_kind, a_relation, a_constant, a_first, a_second, a_size, a_number, a_scope) c i else if k = j then x - fd_of (a_kind, a_relation, a_constant, a_first, a_second, a_size, a_number, a_scope) c j else fd_lo (a_work (fd_sp (a_kind, a_relation, a_constant, a_first, a_second, a_size, a_number, a_scope) c k))) (fun k hk => by
        show bt (a_work (fd_sp (a_kind, a_relation, a_constant, a_first, a_second, a_size, a_number, a_scope) c k)) (if k = i then x - fd_of (a_kind, a_relation, a_constant, a_first, a_second, a_size, a_number, a_scope) c i else if k = j then x - fd_of (a_kind, a_relation, a_constant, a_first, a_second, a_size, a_number, a_scope) c j else fd_lo (a_work (fd_sp (a_kind, a_relation, a_constant, a_first, a_second, a_size, a_number, a_scope) c k))) = true
        by_cases e : k = i
        · rw [if_pos e, e]; exact I1.2
        · rw [if_neg e]
          by_cases e' : k = j
          · rw [if_pos e', e']; exact I2.2
          · rw [if_neg e']; exact fd_lo_in (hW _ (hT.2.2.1 k hk).1))
      refine ⟨a, ha, fun hH => (fd_H3 hkd).mp hH i j hi hjz ?_⟩
      have v1 := hv i (by omega)
      have v2 := hv j hjz
      rw [if_pos rfl] at v1
      rw [if_neg (by omega), if_pos rfl] at v2
      have o1 := (fd_of_le hT (j := i) (by omega)).2
      have o2 := (fd_of_le hT hjz).2
      have g1 := I1.1
      have g2 := I2.1
      omega
theorem fd_xaD {post : Int32 → Prop} (w : fd_WF n (a_kind, a_relation, a_constant, a_first, a_second, a_size, a_number, a_scope) c) (hkd : fd_kd (a_kind, a_relation, a_constant, a_first, a_second, a_size, a_number, a_scope) c = 3) (hn : n ≤ 8) (hc : c < 13) (hW : fd_NE n a_work) (h1 : (∀ a, fd_In n a_work a → fd_H (a_kind, a_relation, a_constant, a_first, a_second, a_size, a_number, a_scope) c a) → post 1) (h0 : (∃ a, fd_In n a_work a ∧ ¬ fd_H (a_kind, a_relation, a_constant, a_first, a_second, a_size, a_number, a_scope) c a) → post 0) : wpX_alwaysDifferent post (f_objectiveSlot, f_maxVariables, f_maxConstraints, f_maxDepth, f_variables, f_space, f_failed, f_terms, f_cells, f_constraints, f_level, f_mode, f_found, f_exhausted, f_hasCurrent, f_objective, f_pending, f_matched, f_depth, f_guided, f_bounded, a_dom, a_watch, a_order, a_direction, a_termA, a_termV, a_cellX, a_kind, a_relation, a_constant, a_first, a_second, a_size, a_number, a_scope, a_savedDom, a_savedConstraints, a_decidedVariable, a_decidedValue, a_current, a_work, a_sums, a_grown, a_image, a_mate, a_parent, a_queue, a_reach, a_frames, a_left) (nI c) :=
  ⟨fd_sz (a_kind, a_relation, a_constant, a_first, a_second, a_size, a_number, a_scope) c + 1, fd_xaD5 w hkd hn hc hW h1 h0 (fd_sz (a_kind, a_relation, a_constant, a_first, a_second, a_size, a_number, a_scope) c) 0 (by omega) 0 (fun x => by rw [fd_l0]; exact ⟨fun z => absurd z (by decide), fun ⟨i, hi, _⟩ => absurd hi (by omega)⟩) (fun i i' x _ h => absurd h (by omega)) _ (by omega)⟩
theorem fd_xaE33 {post : Int32 → Prop} (w : fd_WF n (a_kind, a_relation, a_constant, a_first, a_second, a_size, a_number, a_scope) c) (hkd : fd_kd (a_kind, a_relation, a_constant, a_first, a_second, a_size, a_number, a_scope) c = 4) (hn : n ≤ 8) (hc : c < 13) (hW : fd_NE n a_work) (h1 : (∀ a, fd_In n a_work a → fd_H (a_kind, a_relation, a_constant, a_first, a_second, a_size, a_number, a_scope) c a) → post 1) (h0 : (∃ a, fd_In n a_work a ∧ ¬ fd_H (a_kind, a_relation, a_constant, a_first, a_second, a_size, a_number, a_scope) c a) → post 0) :
    ∀ t i, i + t = 32 → (∀ d, d < i → bt (a_work (fd_fi (a_kind, a_relation, a_constant, a_first, a_second, a_size, a_number, a_scope) c)) d = true → d < fd_sz (a_kind, a_relation, a_constant, a_first, a_second, a_size, a_number, a_scope) c ∧ ∀ e, bt (a_work (fd_se (a_kind, a_relation, a_constant, a_first, a_second, a_size, a_number, a_scope) c)) e = true ↔ e = (fd_nu (a_kind, a_relation, a_constant, a_first, a_second, a_size, a_number, a_scope) c d).toNat) → ∀ q, t < q → wX_alwaysElement_33 post (nI c) (nI (16 * c)) (a_work (fd_fi (a_kind, a_relation, a_constant, a_first, a_second, a_size, a_number, a_scope) c)) (a_work (fd_se (a_kind, a_relation, a_constant, a_first, a_second, a_size, a_number, a_scope) c)) f_objectiveSlot f_maxVariables f_maxConstraints f_maxDepth f_variables f_space f_failed f_terms f_cells f_constraints f_level f_mode f_found f_exhausted f_hasCurrent f_objective f_pending f_matched f_depth f_guided f_bounded a_dom a_watch a_order a_direction a_termA a_termV a_cellX a_kind a_relation a_constant a_first a_second a_size a_number a_scope a_savedDom a_savedConstraints a_decidedVariable a_decidedValue a_current a_work a_sums a_grown a_image a_mate a_parent a_queue a_reach a_frames a_left q (nI i) := by
  obtain ⟨w1, f1, w2, f2, w3, w5, w6, hz, w4⟩ := fd_WF4 w hkd
  have e2 : (nI c).toNatClampNeg = c := pk_cl c
  have hz' : a_size c = nI (fd_sz (a_kind, a_relation, a_constant, a_first, a_second, a_size, a_number, a_scope) c) := hz
  have i0 := fd_In_lo hW
  intro t
  induction t with
  | zero =>
    intro i hi hs q hq
    obtain ⟨q, rfl⟩ : ∃ q', q = q' + 1 := ⟨q - 1, by omega⟩
    refine pk_le 32 i (fun _ => h1 (fun a ha => (fd_H4 hkd).mpr ?_)) (fun c => absurd c (by omega))
    have hd := ha _ w1
    obtain ⟨s1, s2⟩ := hs _ (by have := fd_lt hd; omega) hd
    have := (s2 _).mp (ha _ w2)
    have := w4 _ s1
    exact ⟨s1, by omega⟩
  | succ t ih =>
    intro i hi hs q hq
    obtain ⟨q, rfl⟩ : ∃ q', q = q' + 1 := ⟨q - 1, by omega⟩
    refine pk_le 32 i (fun c => absurd c (by omega)) (fun _ => ?_)
    by_cases hb : bt (a_work (fd_fi (a_kind, a_relation, a_constant, a_first, a_second, a_size, a_number, a_scope) c)) i = true
    · refine br_f ((fd_nbit _ (by omega)).mpr hb) ⟨pk_in c 13 hc, ?_⟩
      rw [e2, hz']
      refine pk_le (fd_sz (a_kind, a_relation, a_constant, a_first, a_second, a_size, a_number, a_scope) c) i (fun h => h0 ⟨_, fd_In_up i0 hb, fun hH => ?_⟩) (fun h => ?_)
      · have := ((fd_H4 hkd).mp hH).1
        rw [fd_up_s] at this; omega
      · have e3 : (nI (16 * c + i)).toNatClampNeg = 16 * c + i := pk_cl _
        have hv := w4 i h
        have en : a_number (16 * c + i) = nI (fd_nu (a_kind, a_relation, a_constant, a_first, a_second, a_size, a_number, a_scope) c i).toNat := fd_ofI hv.1
        rw [nI_add, e3, en]
        refine ⟨pk_in (16 * c + i) 208 (by omega), ?_⟩
        by_cases hm : a_work (fd_se (a_kind, a_relation, a_constant, a_first, a_second, a_size, a_number, a_scope) c) = (1 : Int32) <<< (nI (fd_nu (a_kind, a_relation, a_constant, a_first, a_second, a_size, a_number, a_scope) c i).toNat &&& 31)
        · refine br_t hm (nm_r (nI_1 i) (ih (i + 1) (by omega) (fun d hd hdb => ?_) q (by omega)))
          by_cases z : d = i
          · subst z
            refine ⟨h, fun e => ?_⟩
            rw [hm, fd_b1 (by omega), decide_eq_true_iff]
          · exact hs d (by omega) hdb
        · obtain ⟨e, he, hne⟩ := fd_not1 (hW _ w2) (d := (fd_nu (a_kind, a_relation, a_constant, a_first, a_second, a_size, a_number, a_scope) c i).toNat) (fun x => hm (fd_mask1 (by omega) x))
          refine br_f hm (h0 ⟨_, fd_In_up (fd_In_up i0 he) hb, fun hH => ?_⟩)
          have := ((fd_H4 hkd).mp hH).2
          rw [fd_up_s, fd_up_n _ (Ne.symm w3), fd_up_s] at this
          omega
    · refine br_t ((fd_bit _ (by omega)).mpr (by simpa using hb)) (nm_r (nI_1 i) (ih (i + 1) (by omega) (fun d hd hdb => ?_) q (by omega)))
      by_cases z : d = i
      · rw [z] at hdb; exact absurd hdb hb
      · exact hs d (by omega) hdb
theorem fd_xaE {post : Int32 → Prop} (w : fd_WF n (a_kind, a_relation, a_constant, a_first, a_second, a_size, a_number, a_scope) c) (hkd : fd_kd (a_kind, a_relation, a_constant, a_first, a_second, a_size, a_number, a_scope) c = 4) (hn : n ≤ 8) (hc : c < 13) (hW : fd_NE n a_work) (h1 : (∀ a, fd_In n a_work a → fd_H (a_kind, a_relation, a_constant, a_first, a_second, a_size, a_number, a_scope) c a) → post 1) (h0 : (∃ a, fd_In n a_work a ∧ ¬ fd_H (a_kind, a_relation, a_constant, a_first, a_second, a_size, a_number, a_scope) c a) → post 0) : wpX_alwaysElement post (f_objectiveSlot, f_maxVariables, f_maxConstraints, f_maxDepth, f_variables, f_space, f_failed, f_terms, f_cells, f_constraints, f_level, f_mode, f_found, f_exhausted, f_hasCurrent, f_objective, f_pending, f_matched, f_depth, f_guided, f_bounded, a_dom, a_watch, a_order, a_direction, a_termA, a_termV, a_cellX, a_kind, a_relation, a_constant, a_first, a_second, a_size, a_number, a_scope, a_savedDom, a_savedConstraints, a_decidedVariable, a_decidedValue, a_current, a_work, a_sums, a_grown, a_image, a_mate, a_parent, a_queue, a_reach, a_frames, a_left) (nI c) := by
  obtain ⟨w1, f1, w2, f2, w3, w5, w6, hz, w4⟩ := fd_WF4 w hkd
  have e2 : (nI c).toNatClampNeg = c := pk_cl c
  have f1' : a_first c = nI (fd_fi (a_kind, a_relation, a_constant, a_first, a_second, a_size, a_number, a_scope) c) := f1
  have f2' : a_second c = nI (fd_se (a_kind, a_relation, a_constant, a_first, a_second, a_size, a_number, a_scope) c) := f2
  have eF : (nI (fd_fi (a_kind, a_relation, a_constant, a_first, a_second, a_size, a_number, a_scope) c)).toNatClampNeg = fd_fi (a_kind, a_relation, a_constant, a_first, a_second, a_size, a_number, a_scope) c := pk_cl _
  have eS : (nI (fd_se (a_kind, a_relation, a_constant, a_first, a_second, a_size, a_number, a_scope) c)).toNatClampNeg = fd_se (a_kind, a_relation, a_constant, a_first, a_second, a_size, a_number, a_scope) c := pk_cl _
  refine nm_r fd_e16 ⟨pk_in c 13 hc, ?_⟩
  rw [e2, f1', f2', eF, eS]
  exact ⟨fd_in8 (by omega), nm_e ⟨pk_in c 13 hc, fd_in8 (by omega), nm_e ⟨33, fd_xaE33 w hkd hn hc hW h1 h0 32 0 rfl (fun d hd => absurd hd (by omega)) 33 (by omega)⟩⟩⟩
theorem fd_xsat {post : Int32 → SX → Prop} (w : fd_WF n (a_kind, a_relation, a_constant, a_first, a_second, a_size, a_number, a_scope) c) (hn : n ≤ 8) (hc : c < 13) (hW : fd_NE n a_work) (hsp : fd_tot n a_work ≤ 1024)
    (h : ∀ r S g, ((r = 1 ∧ ∀ a, fd_In n a_work a → fd_H (a_kind, a_relation, a_constant, a_first, a_second, a_size, a_number, a_scope) c a) ∨ (r = 0 ∧ ∃ a, fd_In n a_work a ∧ ¬ fd_H (a_kind, a_relation, a_constant, a_first, a_second, a_size, a_number, a_scope) c a)) → post r (f_objectiveSlot, f_maxVariables, f_maxConstraints, f_maxDepth, f_variables, f_space, f_failed, f_terms, f_cells, f_constraints, f_level, f_mode, f_found, f_exhausted, f_hasCurrent, f_objective, f_pending, f_matched, f_depth, f_guided, f_bounded, a_dom, a_watch, a_order, a_direction, a_termA, a_termV, a_cellX, a_kind, a_relation, a_constant, a_first, a_second, a_size, a_number, a_scope, a_savedDom, a_savedConstraints, a_decidedVariable, a_decidedValue, a_current, a_work, S, g, a_image, a_mate, a_parent, a_queue, a_reach, a_frames, a_left)) : wpX_alwaysSatisfied post (f_objectiveSlot, f_maxVariables, f_maxConstraints, f_maxDepth, f_variables, f_space, f_failed, f_terms, f_cells, f_constraints, f_level, f_mode, f_found, f_exhausted, f_hasCurrent, f_objective, f_pending, f_matched, f_depth, f_guided, f_bounded, a_dom, a_watch, a_order, a_direction, a_termA, a_termV, a_cellX, a_kind, a_relation, a_constant, a_first, a_second, a_size, a_number, a_scope, a_savedDom, a_savedConstraints, a_decidedVariable, a_decidedValue, a_current, a_work, a_sums, a_grown, a_image, a_mate, a_parent, a_queue, a_reach, a_frames, a_left) (nI c) := by
  have e2 : (nI c).toNatClampNeg = c := pk_cl c
  have nb : ∀ {r : Int32} {A B : Prop}, ((r = 1 ∧ A) ∨ (r = 0 ∧ B)) → narrow .boolean (.int r) = .int r := fun h => fd_nb01 (h.elim (fun z => Or.inl z.1) (fun z => Or.inr z.1))
  refine ⟨pk_in c 13 hc, ?_⟩
  rw [e2]
  rcases fd_kd4 w with k | k | k | k
  · have hk : a_kind c = 1 := k
    obtain ⟨hT, hz1, ⟨l1, l2, l3, l4, l5⟩, hz2⟩ := fd_WF1 w k
    have l1' : a_relation c = nI (fd_rl (a_kind, a_relation, a_constant, a_first, a_second, a_size, a_number, a_scope) c) := l1
    refine nm_r hk (br_f (by decide) (br_f (by decide) (br_t rfl ⟨pk_in c 13 hc, pk_in c 13 hc, ?_⟩)))
    refine fd_xalways (rl := fd_rl (a_kind, a_relation, a_constant, a_first, a_second, a_size, a_number, a_scope) c) (k := fd_ct (a_kind, a_relation, a_constant, a_first, a_second, a_size, a_number, a_scope) c) hT hn hc hz1 l1' l2 rfl (by omega) hW hsp (fun r S g hr => ⟨nb hr, h r S g ?_⟩)
    rcases hr with ⟨e, x⟩ | ⟨e, a, x, y⟩
    · exact Or.inl ⟨e, fun a ha => (fd_H1 k).mpr (x a ha)⟩
    · exact Or.inr ⟨e, a, x, fun z => y ((fd_H1 k).mp z)⟩
  · have hk : a_kind c = 2 := k
    refine nm_r hk (br_f (by decide) (br_f (by decide) (br_f (by decide) (br_t rfl ?_))))
    exact fd_xaR w k hn hc hW hsp (fun r S g hr => ⟨nb hr, h r S g hr⟩)
  · have hk : a_kind c = 3 := k
    refine nm_r hk (br_f (by decide) (br_f (by decide) (br_f (by decide) (br_f (by decide) (br_t rfl ?_)))))
    exact fd_xaD w k hn hc hW (fun x => ⟨narrow_b1, h 1 _ _ (Or.inl ⟨rfl, x⟩)⟩) (fun x => ⟨narrow_b0, h 0 _ _ (Or.inr ⟨rfl, x⟩)⟩)
  · have hk : a_kind c = 4 := k
    refine nm_r hk (br_f (by decide) (br_t (by decide) ?_))
    exact fd_xaE w k hn hc hW (fun x => ⟨narrow_b1, h 1 _ _ (Or.inl ⟨rfl, x⟩)⟩) (fun x => ⟨narrow_b0, h 0 _ _ (Or.inr ⟨rfl, x⟩)⟩)
end
section
variable {f_maxVariables f_maxConstraints f_maxDepth f_vars f_cons f_level f_failed f_termCount f_cellCount f_goalCount f_mode f_found f_exhausted f_current : Int32} {a_made a_dom a_order a_dir a_terms a_cells a_goal a_words a_savedDom a_savedCons a_decision a_val a_seen : Nat → Int32} {post : Int32 → SY → Prop} {n m c : Nat} {G : fd_FC} {o : Nat → Nat}
theorem fd_yent1 (hC : fd_CY n m G o f_vars f_cons a_order a_words) (hc : c < m) (ht : fd_tot n a_dom ≤ 1024) (hall : ∀ a, fd_In n a_dom a → fd_H G c a) (h : ∀ val, post 1 (f_maxVariables, f_maxConstraints, f_maxDepth, f_vars, f_cons, f_level, f_failed, f_termCount, f_cellCount, f_goalCount, f_mode, f_found, f_exhausted, f_current, a_made, a_dom, a_order, a_dir, a_terms, a_cells, a_goal, a_words, a_savedDom, a_savedCons, a_decision, val, a_seen)) :
    ∀ k t, t + k = fd_tot n a_dom → ∀ va, ∀ q, k < q → wY_entailed_33 post (nI c) (nI (fd_tot n a_dom)) q (nI t) f_maxVariables f_maxConstraints f_maxDepth f_vars f_cons f_level f_failed f_termCount f_cellCount f_goalCount f_mode f_found f_exhausted f_current a_made a_dom a_order a_dir a_terms a_cells a_goal a_words a_savedDom a_savedCons a_decision va a_seen := by
  obtain ⟨hn, hm, hv, hcs, hp, ho, hw, hD⟩ := hC
  intro k
  induction k with
  | zero =>
    intro t htt va q hq
    obtain ⟨q, rfl⟩ : ∃ q', q = q' + 1 := ⟨q - 1, by omega⟩
    exact pk_le (fd_tot n a_dom) t (fun _ => h va) (fun c => absurd c (by omega))
  | succ k ih =>
    intro t htt va q hq
    obtain ⟨q, rfl⟩ : ∃ q', q = q' + 1 := ⟨q - 1, by omega⟩
    refine pk_le (fd_tot n a_dom) t (fun c => absurd c (by omega)) (fun _ => ?_)
    refine fd_ydecode (a_val := va) hn hv hp ho ht (by omega) (fun val' a ha hnm hval => ?_)
    exact fd_yholds (a_val := val') (hw c hc) hn (by omega) (hD c hc) hval (fun v hv => fd_lt (ha v hv)) (fun _ => br_f (by decide) (nm_r (nI_1 t) (ih (t + 1) (by omega) val' q (by omega)))) (fun hH => absurd (hall a ha) hH)
theorem fd_yent0 (hC : fd_CY n m G o f_vars f_cons a_order a_words) (hc : c < m) (ht : fd_tot n a_dom ≤ 1024) {a0 : Nat → Nat} (h0 : fd_In n a_dom a0) (hno : ¬ fd_H G c a0) (h : ∀ val, post 0 (f_maxVariables, f_maxConstraints, f_maxDepth, f_vars, f_cons, f_level, f_failed, f_termCount, f_cellCount, f_goalCount, f_mode, f_found, f_exhausted, f_current, a_made, a_dom, a_order, a_dir, a_terms, a_cells, a_goal, a_words, a_savedDom, a_savedCons, a_decision, val, a_seen)) :
    ∀ k t, t + k = fd_nm n a_dom o a_dir a0 → ∀ va, ∀ q, k < q → wY_entailed_33 post (nI c) (nI (fd_tot n a_dom)) q (nI t) f_maxVariables f_maxConstraints f_maxDepth f_vars f_cons f_level f_failed f_termCount f_cellCount f_goalCount f_mode f_found f_exhausted f_current a_made a_dom a_order a_dir a_terms a_cells a_goal a_words a_savedDom a_savedCons a_decision va a_seen := by
  obtain ⟨hn, hm, hv, hcs, hp, ho, hw, hD⟩ := hC
  have hlt := fd_nm_lt (r := a_dir) hp h0
  intro k
  induction k with
  | zero =>
    intro t htt va q hq
    obtain ⟨q, rfl⟩ : ∃ q', q = q' + 1 := ⟨q - 1, by omega⟩
    refine pk_le (fd_tot n a_dom) t (fun c => absurd c (by omega)) (fun _ => ?_)
    refine fd_ydecode (a_val := va) hn hv hp ho ht (by omega) (fun val' a ha hnm hval => ?_)
    refine fd_yholds (a_val := val') (hw c hc) hn (by omega) (hD c hc) hval (fun v hv => fd_lt (ha v hv)) (fun hH => absurd (fd_dep (hw c hc) (fun u hu => ?_) hH) hno) (fun hH => br_t rfl (h val'))
    exact fd_nm_inj hp ha h0 (by rw [hnm]; omega) u (fd_Sc_lt (hw c hc) hu)
  | succ k ih =>
    intro t htt va q hq
    obtain ⟨q, rfl⟩ : ∃ q', q = q' + 1 := ⟨q - 1, by omega⟩
    refine pk_le (fd_tot n a_dom) t (fun c => absurd c (by omega)) (fun _ => ?_)
    refine fd_ydecode (a_val := va) hn hv hp ho ht (by omega) (fun val' a ha hnm hval => ?_)
    exact fd_yholds (a_val := val') (hw c hc) hn (by omega) (hD c hc) hval (fun v hv => fd_lt (ha v hv)) (fun hH => br_f (by decide) (nm_r (nI_1 t) (ih (t + 1) (by omega) val' q (by omega)))) (fun hH => br_t rfl (h val'))
end
theorem i_vc_entailed {k : Nat} {u : SX} {v : SY} (I : i_Rel k u v) (hk : k + 4 ≤ 2051) (v1 : Int32) : wpX_entailed (fun r u' => wpY_entailed (fun r' v' => r' = r ∧ i_Rel (k + 4) u' v') v v1) u v1 := by
  refine fd_el (P := fun u v => wpX_entailed (fun r u' => wpY_entailed (fun r' v' => r' = r ∧ i_Rel (k + 4) u' v') v v1) u v1) I ?_
  intro n m lv tn cn gn mv mc md f_objectiveSlot f_space f_failed f_mode f_found f_exhausted f_hasCurrent f_objective f_pending f_matched f_depth f_guided f_bounded a_dom a_watch a_order a_direction a_termA a_termV a_cellX a_kind a_relation a_constant a_first a_second a_size a_number a_scope a_savedDom a_savedConstraints a_decidedVariable a_decidedValue a_current a_work a_sums a_grown a_image a_mate a_parent a_queue a_reach a_frames a_left f_current a_made a_terms a_goal a_words a_decision a_val a_seen hI
  obtain ⟨q1, q2, q3, q4, q5, q6⟩ := hI.1
  have gK := hI.2.2.2.2.1
  by_cases c0 : v1 < 0
  · exact br_t c0 (br_t c0 ⟨rfl, fd_mk hI⟩)
  · refine br_f c0 ?_
    by_cases c1 : v1 < nI m
    · refine br_t c1 ?_
      by_cases hf : f_failed = 0
      · obtain ⟨hG, hS, htot⟩ := fd_IR_D hI hf
        obtain ⟨c, hc', e⟩ := nI_of c0
        subst e
        have hc : c < m := (nI_ltI hc' (by omega)).mp c1
        refine br_t hf (fd_xload (n := n) (by omega) rfl (fun W hW => ?_))
        have hGW : fd_Good n m (a_kind, a_relation, a_constant, a_first, a_second, a_size, a_number, a_scope) W := fd_Good_congr gK.1 (fun v hv => (hW v hv).symm) hG
        have htW : fd_tot n W ≤ 1024 := by rw [fd_tot_eq hW]; exact htot
        have inW : ∀ a, fd_In n W a ↔ fd_In n a_dom a := fun a => ⟨fun h v hv => by rw [← hW v hv]; exact h v hv, fun h v hv => by rw [hW v hv]; exact h v hv⟩
        refine fd_xsat (n := n) (gK.1 c hc) (by omega) (by omega) hGW.1 htW (fun r S g hr => ?_)
        rcases hr with ⟨rfl, hall⟩ | ⟨rfl, a, ha, hno⟩
        · refine br_f (by decide) (br_f c0 (br_t c1 (br_t hf (fd_ytot (n := n) (by omega) rfl ⟨fd_tot n a_dom + 1, ?_⟩))))
          exact fd_yent1 (n := n) (m := m) (G := (a_kind, a_relation, a_constant, a_first, a_second, a_size, a_number, a_scope)) (o := fd_or a_order) (fd_IR_CY hI) hc htot (fun a ha => hall a ((inW a).mpr ha)) (fun val => ⟨rfl, fd_mk hI⟩) (fd_tot n a_dom) 0 (by omega) a_val _ (by omega)
        · refine br_t rfl (br_f c0 (br_t c1 (br_t hf (fd_ytot (n := n) (by omega) rfl ⟨fd_nm n a_dom (fd_or a_order) a_direction a + 1, ?_⟩))))
          exact fd_yent0 (n := n) (m := m) (G := (a_kind, a_relation, a_constant, a_first, a_second, a_size, a_number, a_scope)) (o := fd_or a_order) (fd_IR_CY hI) hc htot ((inW a).mp ha) hno (fun val => ⟨rfl, fd_mk hI⟩) _ 0 (Nat.zero_add _) a_val _ (Nat.lt_succ_self _)
      · exact br_f hf (br_f c0 (br_t c1 (br_f hf ⟨rfl, fd_mk hI⟩)))
    · exact br_f c1 (br_f c0 (br_f c1 ⟨rfl, fd_mk hI⟩))
end
section
/-! ===== depth-first search, pure ===== -/
/-- a lies in frame q with a value still to be tried there -/
def fd_Rw (n : Nat) (o : Nat → Nat) (F : Nat → Nat → Int32) (L : Nat → Int32) (q : Nat) (a : Nat → Nat) : Prop := fd_In n (F q) a ∧ bt (L q) (a (o q)) = true
def fd_uF (F : Nat → Nat → Int32) (p : Nat) (W : Nat → Int32) : Nat → Nat → Int32 := fun q => if q = p then W else F q
theorem fd_uF_s (F : Nat → Nat → Int32) (p : Nat) (W : Nat → Int32) : fd_uF F p W p = W := if_pos rfl
theorem fd_uF_n (F : Nat → Nat → Int32) {p q : Nat} (W : Nat → Int32) (h : q ≠ p) : fd_uF F p W q = F q := if_neg h
/-- the frames -/
def fd_DS (n m : Nat) (G : fd_FC) (D : Nat → Int32) (o : Nat → Nat) (r : Nat → Int32) (F : Nat → Nat → Int32) (L : Nat → Int32) (p : Nat) : Prop :=
  p < n ∧ (∀ q, q ≤ p → fd_Good n m G (F q) ∧ fd_Sub n (F q) D ∧ (∀ d, bt (L q) d = true → bt (F q (o q)) d = true)) ∧
  (∀ q s, q ≤ p → s < q → fd_Sub n (F q) (F s) ∧ (∀ d e, bt (F q (o s)) d = true → bt (F q (o s)) e = true → d = e) ∧ (∀ d e, bt (F q (o s)) d = true → bt (L s) e = true → fd_bf (r (o s)) d e))
/-- what is left to be found: the candidates from T on -/
def fd_DT (n : Nat) (D : Nat → Int32) (o : Nat → Nat) (r : Nat → Int32) (C : (Nat → Nat) → Prop) (T0 T : Nat) (F : Nat → Nat → Int32) (L : Nat → Int32) (p : Nat) : Prop :=
  ∀ a, fd_In n D a → C a → T0 ≤ fd_nm n D o r a → (T ≤ fd_nm n D o r a ↔ ∃ q, q ≤ p ∧ fd_Rw n o F L q a)
/-- the guide -/
def fd_DG (n : Nat) (D : Nat → Int32) (o : Nat → Nat) (r : Nat → Int32) (T0 : Nat) (cur : Nat → Nat) (gd : Int32) (F : Nat → Nat → Int32) (L : Nat → Int32) (p : Nat) : Prop :=
  (gd = 0 ∧ ∀ q, q ≤ p → ∀ a, fd_Rw n o F L q a → T0 ≤ fd_nm n D o r a) ∨
  (gd = 1 ∧ T0 = fd_nm n D o r cur + 1 ∧ fd_In n D cur ∧ (∀ q, q < p → ∀ a, fd_Rw n o F L q a → T0 ≤ fd_nm n D o r a) ∧ (∀ s, s < p → ∀ d, bt (F p (o s)) d = true → d = cur (o s)) ∧
    (∀ d, bt (L p) d = true → d = cur (o p) ∨ fd_bf (r (o p)) (cur (o p)) d) ∧ (p + 1 = n → ∀ a, fd_Rw n o F L p a → T0 ≤ fd_nm n D o r a))
section
variable {n m : Nat} {G : fd_FC} {D : Nat → Int32} {o : Nat → Nat} {r : Nat → Int32} {C : (Nat → Nat) → Prop} {T0 T : Nat} {cur : Nat → Nat} {gd : Int32} {F : Nat → Nat → Int32} {L : Nat → Int32} {p : Nat}
theorem fd_DS_pop (h : fd_DS n m G D o r F L (p + 1)) : fd_DS n m G D o r F L p :=
  ⟨by have := h.1; omega, fun q hq => h.2.1 q (by omega), fun q s hq hs => h.2.2 q s (by omega) hs⟩
theorem fd_DT_pop (hz : L (p + 1) = 0) (h : fd_DT n D o r C T0 T F L (p + 1)) : fd_DT n D o r C T0 T F L p := by
  intro a ha hC h0
  rw [h a ha hC h0]
  constructor
  · rintro ⟨q, hq, hR⟩
    by_cases e : q = p + 1
    · rw [e] at hR
      have := hR.2
      rw [hz, b_0] at this
      exact absurd this (by decide)
    · exact ⟨q, by omega, hR⟩
  · rintro ⟨q, hq, hR⟩; exact ⟨q, by omega, hR⟩
theorem fd_DG_pop (hp : fd_Perm n o) (hS : fd_DS n m G D o r F L (p + 1)) (h : fd_DG n D o r T0 cur gd F L (p + 1)) : fd_DG n D o r T0 cur gd F L p := by
  rcases h with ⟨e, h⟩ | ⟨e, h1, h2, h3, h4, h5, h6⟩
  · exact Or.inl ⟨e, fun q hq => h q (by omega)⟩
  · have hpn := hS.1
    refine Or.inr ⟨e, h1, h2, fun q hq => h3 q (by omega), fun s hs d hd => ?_, fun d hd => ?_, fun he => by omega⟩
    · obtain ⟨x, hx⟩ := fd_ne0.mp ((hS.2.1 (p + 1) (Nat.le_refl _)).1.1 (o s) (hp.1 s (by omega)))
      have e1 := h4 s (by omega) x hx
      have hx' := (hS.2.2 (p + 1) p (Nat.le_refl _) (by omega)).1 (o s) (hp.1 s (by omega)) x hx
      rw [(hS.2.2 p s (by omega) hs).2.1 d x hd hx', e1]
    · obtain ⟨x, hx⟩ := fd_ne0.mp ((hS.2.1 (p + 1) (Nat.le_refl _)).1.1 (o p) (hp.1 p (by omega)))
      have e1 := h4 p (by omega) x hx
      have := (hS.2.2 (p + 1) p (Nat.le_refl _) (by omega)).2.2 x d hx hd
      rw [e1] at this
      exact Or.inr this
theorem fd_DT_end (hz : L 0 = 0) (h : fd_DT n D o r C T0 T F L 0) : ∀ a, fd_In n D a → C a → T0 ≤ fd_nm n D o r a → fd_nm n D o r a < T := by
  intro a ha hC h0
  rcases Nat.lt_or_ge (fd_nm n D o r a) T with x | x
  · exact x
  · obtain ⟨q, hq, hR⟩ := (h a ha hC h0).mp x
    have e : q = 0 := by omega
    rw [e] at hR
    have := hR.2
    rw [hz, b_0] at this
    exact absurd this (by decide)
/-- after d was taken from L p -/
def fd_Tk (r : Nat → Int32) (o : Nat → Nat) (L : Nat → Int32) (p d : Nat) (L' : Nat → Int32) : Prop :=
  bt (L p) d = true ∧ (∀ e, bt (L p) e = true → e = d ∨ fd_bf (r (o p)) d e) ∧ (∀ e, bt (L' p) e = true ↔ (bt (L p) e = true ∧ e ≠ d)) ∧ ∀ q, q < p → L' q = L q
theorem fd_Tk_sub {d : Nat} {L' : Nat → Int32} (hT : fd_Tk r o L p d L') {q : Nat} (hq : q ≤ p) {e : Nat} (h : bt (L' q) e = true) : bt (L q) e = true := by
  by_cases c : q = p
  · rw [c] at h ⊢; exact ((hT.2.2.1 e).mp h).1
  · rw [← hT.2.2.2 q (by omega)]; exact h
theorem fd_Rw_sub {d : Nat} {L' : Nat → Int32} (hT : fd_Tk r o L p d L') {q : Nat} (hq : q ≤ p) {a : Nat → Nat} (h : fd_Rw n o F L' q a) : fd_Rw n o F L q a := ⟨h.1, fd_Tk_sub hT hq h.2⟩
theorem fd_DS_take {d : Nat} {L' : Nat → Int32} (hT : fd_Tk r o L p d L') (h : fd_DS n m G D o r F L p) : fd_DS n m G D o r F L' p :=
  ⟨h.1, fun q hq => ⟨(h.2.1 q hq).1, (h.2.1 q hq).2.1, fun e he => (h.2.1 q hq).2.2 e (fd_Tk_sub hT hq he)⟩, fun q s hq hs => ⟨(h.2.2 q s hq hs).1, (h.2.2 q s hq hs).2.1, fun x e hx he => (h.2.2 q s hq hs).2.2 x e hx (fd_Tk_sub hT (by omega) he)⟩⟩
/-- guided, along cur and a later value: behind cur -/
theorem fd_behind (hp : fd_Perm n o) (hS : fd_DS n m G D o r F L p) (hcur : fd_In n D cur) (h4 : ∀ s, s < p → ∀ d, bt (F p (o s)) d = true → d = cur (o s)) {a : Nat → Nat} (ha : fd_In n (F p) a) (hb : fd_bf (r (o p)) (cur (o p)) (a (o p))) : fd_nm n D o r cur + 1 ≤ fd_nm n D o r a := by
  have hpn := hS.1
  have haD := fd_In_sub (hS.2.1 p (Nat.le_refl _)).2.1 ha
  exact fd_nm_lex hp hcur haD hpn (fun s hs => (h4 s hs _ (ha _ (hp.1 s (by omega)))).symm) hb
theorem fd_DG_take {d : Nat} {L' : Nat → Int32} {gd' : Int32} (hp : fd_Perm n o) (hT : fd_Tk r o L p d L') (hS : fd_DS n m G D o r F L p) (h : fd_DG n D o r T0 cur gd F L p) (hg : (gd' = 1 ∧ gd = 1 ∧ d = cur (o p)) ∨ (gd' = 0 ∧ (gd = 0 ∨ d ≠ cur (o p)))) : fd_DG n D o r T0 cur gd' F L' p := by
  rcases h with ⟨e, h⟩ | ⟨e, h1, h2, h3, h4, h5, h6⟩
  · rcases hg with ⟨_, z, _⟩ | ⟨z, _⟩
    · rw [e] at z; exact absurd z (by decide)
    · exact Or.inl ⟨z, fun q hq a hR => h q hq a (fd_Rw_sub hT hq hR)⟩
  · rcases hg with ⟨z, _, ed⟩ | ⟨z, hne⟩
    · exact Or.inr ⟨z, h1, h2, fun q hq a hR => h3 q hq a (fd_Rw_sub hT (by omega) hR), h4, fun x hx => h5 x (fd_Tk_sub hT (Nat.le_refl _) hx), fun hn a hR => h6 hn a (fd_Rw_sub hT (Nat.le_refl _) hR)⟩
    · have hne : d ≠ cur (o p) := hne.elim (fun y => by rw [e] at y; exact absurd y (by decide)) id
      have hcd : fd_bf (r (o p)) (cur (o p)) d := (h5 d hT.1).elim (fun y => absurd y hne) id
      refine Or.inl ⟨z, fun q hq a hR => ?_⟩
      by_cases c : q = p
      · rw [c] at hR
        have hx := (hT.2.2.1 _).mp hR.2
        have hb : fd_bf (r (o p)) d (a (o p)) := (hT.2.1 _ hx.1).elim (fun y => absurd y hx.2) id
        rw [h1]
        exact fd_behind hp hS h2 h4 hR.1 (fd_bf_tr hcd hb)
      · exact h3 q (by omega) a (fd_Rw_sub hT hq hR)
theorem fd_DT_fail {d : Nat} {L' : Nat → Int32} (hT : fd_Tk r o L p d L') (hf : ∀ a, fd_In n (F p) a → a (o p) = d → ¬ C a) (h : fd_DT n D o r C T0 T F L p) : fd_DT n D o r C T0 T F L' p := by
  intro a ha hC h0
  rw [h a ha hC h0]
  constructor
  · rintro ⟨q, hq, hR⟩
    refine ⟨q, hq, hR.1, ?_⟩
    by_cases c : q = p
    · rw [c] at hR ⊢
      exact (hT.2.2.1 _).mpr ⟨hR.2, fun e => hf a hR.1 e hC⟩
    · rw [hT.2.2.2 q (by omega)]; exact hR.2
  · rintro ⟨q, hq, hR⟩; exact ⟨q, hq, fd_Rw_sub hT hq hR⟩
/-! one depth deeper -/
/-- the values to be tried at the new depth -/
def fd_Vl (n : Nat) (o : Nat → Nat) (r : Nat → Int32) (cur : Nat → Nat) (gd : Int32) (p : Nat) (W : Nat → Int32) (V : Int32) : Prop :=
  ∀ e, bt V e = true ↔ (bt (W (o p)) e = true ∧ (gd = 1 → (e = cur (o p) ∨ fd_bf (r (o p)) (cur (o p)) e) ∧ (p + 1 = n → e ≠ cur (o p))))
theorem fd_DS_deep {d : Nat} {L' : Nat → Int32} {W : Nat → Int32} {V : Int32} (hp1 : p + 1 < n) (hp : fd_Perm n o) (hT : fd_Tk r o L p d L') (hS : fd_DS n m G D o r F L p) (hW : fd_Good n m G W) (hWs : fd_Sub n W (F p)) (hWd : ∀ e, bt (W (o p)) e = true → e = d) (hV : ∀ e, bt V e = true → bt (W (o (p + 1))) e = true) : fd_DS n m G D o r (fd_uF F (p + 1) W) (upd L' (p + 1) V) (p + 1) := by
  refine ⟨hp1, fun q hq => ?_, fun q s hq hs => ?_⟩
  · by_cases c : q = p + 1
    · rw [c, fd_uF_s, pk_us]
      exact ⟨hW, fd_Sub_tr hWs (hS.2.1 p (Nat.le_refl _)).2.1, hV⟩
    · rw [fd_uF_n F W c, pk_un c]
      exact ⟨(hS.2.1 q (by omega)).1, (hS.2.1 q (by omega)).2.1, fun e he => (hS.2.1 q (by omega)).2.2 e (fd_Tk_sub hT (by omega) he)⟩
  · rw [fd_uF_n F W (by omega : s ≠ p + 1), pk_un (by omega : s ≠ p + 1)]
    by_cases c : q = p + 1
    · rw [c, fd_uF_s]
      by_cases c2 : s = p
      · rw [c2]
        refine ⟨hWs, fun x y hx hy => by rw [hWd x hx, hWd y hy], fun x e hx he => ?_⟩
        rw [hWd x hx]
        have := (hT.2.2.1 e).mp he
        exact (hT.2.1 e this.1).elim (fun z => absurd z this.2) id
      · obtain ⟨a1, a2, a3⟩ := hS.2.2 p s (Nat.le_refl _) (by omega)
        have hos := hp.1 s (by omega)
        exact ⟨fd_Sub_tr hWs a1, fun x y hx hy => a2 x y (hWs _ hos x hx) (hWs _ hos y hy), fun x e hx he => a3 x e (hWs _ hos x hx) (fd_Tk_sub hT (by omega) he)⟩
    · rw [fd_uF_n F W c]
      obtain ⟨a1, a2, a3⟩ := hS.2.2 q s (by omega) hs
      exact ⟨a1, a2, fun x e hx he => a3 x e hx (fd_Tk_sub hT (by omega) he)⟩
theorem fd_DT_deep {d : Nat} {L' : Nat → Int32} {W : Nat → Int32} {V : Int32} {gd' : Int32} (hp1 : p + 1 < n) (hp : fd_Perm n o) (hT : fd_Tk r o L p d L') (hS : fd_DS n m G D o r F L p) (hG : fd_DG n D o r T0 cur gd F L p) (hg : (gd' = 1 ∧ gd = 1 ∧ d = cur (o p)) ∨ (gd' = 0 ∧ (gd = 0 ∨ d ≠ cur (o p)))) (hWs : fd_Sub n W (F p)) (hWd : ∀ e, bt (W (o p)) e = true → e = d) (hWc : ∀ a, fd_In n (F p) a → a (o p) = d → C a → fd_In n W a) (hV : fd_Vl n o r cur gd' (p + 1) W V) (h : fd_DT n D o r C T0 T F L p) : fd_DT n D o r C T0 T (fd_uF F (p + 1) W) (upd L' (p + 1) V) (p + 1) := by
  intro a ha hC h0
  rw [h a ha hC h0]
  constructor
  · rintro ⟨q, hq, hR⟩
    by_cases c : q = p
    · rw [c] at hR
      by_cases e : a (o p) = d
      · have hW := hWc a hR.1 e hC
        refine ⟨p + 1, Nat.le_refl _, by rw [fd_uF_s]; exact hW, ?_⟩
        rw [pk_us, hV]
        refine ⟨hW _ (hp.1 (p + 1) hp1), fun g1 => ?_⟩
        rcases hg with ⟨_, gg, ed⟩ | ⟨z, _⟩
        · rcases hG with ⟨z, _⟩ | ⟨_, h1, h2, h3, h4, h5, h6⟩
          · rw [gg] at z; exact absurd z (by decide)
          · rw [h1] at h0
            obtain ⟨p1, hpn, hsame, hbf⟩ := fd_nm_dif (r := r) hp h2 ha (by omega)
            have pre : ∀ s, s ≤ p → a (o s) = cur (o s) := fun s hs => by
              by_cases z : s = p
              · rw [z, e, ed]
              · exact h4 s (by omega) _ (hR.1 _ (hp.1 s (by omega)))
            have hge : p + 1 ≤ p1 := by
              rcases Nat.lt_or_ge p1 (p + 1) with z | z
              · rw [pre p1 (by omega)] at hbf; exact absurd hbf fd_bf_ir
              · exact z
            by_cases z : p1 = p + 1
            · rw [z] at hbf
              exact ⟨Or.inr hbf, fun _ y => by rw [y] at hbf; exact fd_bf_ir hbf⟩
            · exact ⟨Or.inl (hsame (p + 1) (by omega)).symm, fun y => by omega⟩
        · rw [g1] at z; exact absurd z (by decide)
      · refine ⟨p, by omega, by rw [fd_uF_n F W (by omega)]; exact hR.1, ?_⟩
        rw [pk_un (by omega)]
        exact (hT.2.2.1 _).mpr ⟨hR.2, e⟩
    · refine ⟨q, by omega, by rw [fd_uF_n F W (by omega)]; exact hR.1, ?_⟩
      rw [pk_un (by omega), hT.2.2.2 q (by omega)]; exact hR.2
  · rintro ⟨q, hq, hR⟩
    by_cases c : q = p + 1
    · rw [c] at hR
      obtain ⟨r1, r2⟩ := hR
      rw [fd_uF_s] at r1
      have hF := fd_In_sub hWs r1
      refine ⟨p, Nat.le_refl _, hF, ?_⟩
      rw [hWd _ (r1 _ (hp.1 p (by omega)))]; exact hT.1
    · obtain ⟨r1, r2⟩ := hR
      rw [fd_uF_n F W c] at r1
      rw [pk_un c] at r2
      exact ⟨q, by omega, r1, fd_Tk_sub hT (by omega) r2⟩
theorem fd_DG_deep {d : Nat} {L' : Nat → Int32} {W : Nat → Int32} {V : Int32} {gd' : Int32} (hp1 : p + 1 < n) (hp : fd_Perm n o) (hT : fd_Tk r o L p d L') (hS : fd_DS n m G D o r F L p) (hG : fd_DG n D o r T0 cur gd F L p) (hg : (gd' = 1 ∧ gd = 1 ∧ d = cur (o p)) ∨ (gd' = 0 ∧ (gd = 0 ∨ d ≠ cur (o p)))) (hWg : fd_Good n m G W) (hWs : fd_Sub n W (F p)) (hWd : ∀ e, bt (W (o p)) e = true → e = d) (hV : fd_Vl n o r cur gd' (p + 1) W V) : fd_DG n D o r T0 cur gd' (fd_uF F (p + 1) W) (upd L' (p + 1) V) (p + 1) := by
  have hS' := fd_DS_deep (V := V) hp1 hp hT hS hWg hWs hWd (fun e he => ((hV e).mp he).1)
  have hG' := fd_DG_take hp hT hS hG hg
  have lift : ∀ q, q ≤ p → ∀ a, fd_Rw n o (fd_uF F (p + 1) W) (upd L' (p + 1) V) q a → fd_Rw n o F L' q a := fun q hq a hR => by
    obtain ⟨r1, r2⟩ := hR
    rw [fd_uF_n F W (by omega)] at r1
    rw [pk_un (by omega)] at r2
    exact ⟨r1, r2⟩
  rcases hg with ⟨z, gg, ed⟩ | ⟨z, hne⟩
  · rcases hG with ⟨y, _⟩ | ⟨_, h1, h2, h3, h4, h5, h6⟩
    · rw [gg] at y; exact absurd y (by decide)
    · have pre : ∀ s, s < p + 1 → ∀ x, bt (fd_uF F (p + 1) W (p + 1) (o s)) x = true → x = cur (o s) := fun s hs x hx => by
        rw [fd_uF_s] at hx
        by_cases c : s = p
        · rw [c] at hx ⊢; rw [hWd x hx, ed]
        · exact h4 s (by omega) x (hWs _ (hp.1 s (by omega)) x hx)
      refine Or.inr ⟨z, h1, h2, fun q hq a hR => ?_, pre, fun x hx => ?_, fun hn a hR => ?_⟩
      · have hR' := lift q (by omega) a hR
        by_cases c : q = p
        · rw [c] at hR'
          have hx := (hT.2.2.1 _).mp hR'.2
          have hb : fd_bf (r (o p)) d (a (o p)) := (hT.2.1 _ hx.1).elim (fun y => absurd y hx.2) id
          rw [ed] at hb
          rw [h1]
          exact fd_behind hp hS h2 h4 hR'.1 hb
        · exact h3 q (by omega) a (fd_Rw_sub hT (by omega) hR')
      · rw [pk_us] at hx
        exact (((hV x).mp hx).2 z).1
      · obtain ⟨r1, r2⟩ := hR
        rw [pk_us] at r2
        have hv := ((hV _).mp r2).2 z
        have hb := hv.1.elim (fun y => absurd y (hv.2 hn)) id
        rw [h1]
        exact fd_behind hp hS' h2 pre r1 hb
  · refine Or.inl ⟨z, fun q hq a hR => ?_⟩
    by_cases c : q = p + 1
    · rw [c] at hR
      obtain ⟨r1, r2⟩ := hR
      rw [fd_uF_s] at r1
      have hF := fd_In_sub hWs r1
      have ed := hWd _ (r1 _ (hp.1 p (by omega)))
      rcases hG with ⟨_, h⟩ | ⟨y, h1, h2, h3, h4, h5, h6⟩
      · exact h p (Nat.le_refl _) a ⟨hF, by rw [ed]; exact hT.1⟩
      · have hne : d ≠ cur (o p) := hne.elim (fun x => by rw [y] at x; exact absurd x (by decide)) id
        have hcd : fd_bf (r (o p)) (cur (o p)) d := (h5 d hT.1).elim (fun y => absurd y hne) id
        rw [h1]
        exact fd_behind hp hS h2 h4 hF (by rw [ed]; exact hcd)
    · rcases hG' with ⟨_, h⟩ | ⟨y, _⟩
      · exact h q (by omega) a (lift q (by omega) a hR)
      · rw [z] at y; exact absurd y (by decide)
/-! a leaf -/
theorem fd_leaf {d : Nat} {L' : Nat → Int32} {W : Nat → Int32} (hpn : p + 1 = n) (hp : fd_Perm n o) (hT : fd_Tk r o L p d L') (hS : fd_DS n m G D o r F L p) (hG : fd_DG n D o r T0 cur gd F L p) (hw : ∀ c, c < m → fd_WF n G c) (hW : fd_Good n m G W) (hWs : fd_Sub n W (F p)) (hWd : ∀ e, bt (W (o p)) e = true → e = d) :
    (∀ a b, fd_In n W a → fd_In n W b → ∀ v, v < n → a v = b v) ∧ (∀ a, fd_In n W a → fd_In n D a ∧ (∀ c, c < m → fd_H G c a) ∧ T0 ≤ fd_nm n D o r a) := by
  have sing : ∀ s, s < n → ∀ x y, bt (W (o s)) x = true → bt (W (o s)) y = true → x = y := fun s hs x y hx hy => by
    by_cases c : s = p
    · rw [c] at hx hy; rw [hWd x hx, hWd y hy]
    · have hos := hp.1 s hs
      exact (hS.2.2 p s (Nat.le_refl _) (by omega)).2.1 x y (hWs _ hos x hx) (hWs _ hos y hy)
  have uni : ∀ a b, fd_In n W a → fd_In n W b → ∀ v, v < n → a v = b v := fun a b ha hb v hv => by
    obtain ⟨s, hs, e⟩ := fd_Perm_on hp hv
    rw [← e]
    exact sing s hs _ _ (ha _ (hp.1 s hs)) (hb _ (hp.1 s hs))
  refine ⟨uni, fun a ha => ⟨fd_In_sub (fd_Sub_tr hWs (hS.2.1 p (Nat.le_refl _)).2.1) ha, fun c hc => ?_, ?_⟩⟩
  · obtain ⟨b, hb, hH⟩ := fd_Good_sol (hw c hc) hW.1 (hW.2 c hc)
    exact fd_dep (hw c hc) (fun u hu => uni b a hb ha u (fd_Sc_lt (hw c hc) hu)) hH
  · have hR : fd_Rw n o F L p a := ⟨fd_In_sub hWs ha, by rw [hWd _ (ha _ (hp.1 p (by omega)))]; exact hT.1⟩
    rcases hG with ⟨_, h⟩ | ⟨_, _, _, _, _, _, h6⟩
    · exact h p (Nat.le_refl _) a hR
    · exact h6 hpn a hR
/-- every candidate left, other than the leaf, comes behind it -/
theorem fd_leaf_lt {d : Nat} {L' : Nat → Int32} {W : Nat → Int32} (hp : fd_Perm n o) (hT : fd_Tk r o L p d L') (hS : fd_DS n m G D o r F L p) (hWs : fd_Sub n W (F p)) (hWd : ∀ e, bt (W (o p)) e = true → e = d) {a b : Nat → Nat} (ha : fd_In n W a) {q : Nat} (hq : q ≤ p) (hR : fd_Rw n o F L' q b) : fd_nm n D o r a < fd_nm n D o r b := by
  have hpn := hS.1
  have haF := fd_In_sub hWs ha
  have haD := fd_In_sub (hS.2.1 p (Nat.le_refl _)).2.1 haF
  have hbD := fd_In_sub (hS.2.1 q hq).2.1 hR.1
  by_cases c : q = p
  · rw [c] at hR
    refine fd_nm_lex hp haD hbD hpn (fun s hs => ?_) ?_
    · have hos := hp.1 s (by omega)
      exact (hS.2.2 p s (Nat.le_refl _) hs).2.1 _ _ (haF _ hos) (hR.1 _ hos)
    · have hx := (hT.2.2.1 _).mp hR.2
      rw [hWd _ (ha _ (hp.1 p hpn))]
      exact (hT.2.1 _ hx.1).elim (fun y => absurd y hx.2) id
  · have hqp : q < p := by omega
    obtain ⟨a1, a2, a3⟩ := hS.2.2 p q (Nat.le_refl _) hqp
    refine fd_nm_lex hp haD hbD (by omega) (fun s hs => ?_) (a3 _ _ (haF _ (hp.1 q (by omega))) (fd_Tk_sub hT hq hR.2))
    have hos := hp.1 s (by omega)
    exact (hS.2.2 q s hq hs).2.1 _ _ (a1 _ hos _ (haF _ hos)) (hR.1 _ hos)
theorem fd_DT_leaf {d : Nat} {L' : Nat → Int32} {W : Nat → Int32} (hpn : p + 1 = n) (hp : fd_Perm n o) (hT : fd_Tk r o L p d L') (hS : fd_DS n m G D o r F L p) (hG : fd_DG n D o r T0 cur gd F L p) (hw : ∀ c, c < m → fd_WF n G c) (hW : fd_Good n m G W) (hWs : fd_Sub n W (F p)) (hWd : ∀ e, bt (W (o p)) e = true → e = d) (hWc : ∀ a, fd_In n (F p) a → a (o p) = d → C a → fd_In n W a) (h : fd_DT n D o r C T0 T F L p) {a : Nat → Nat} (ha : fd_In n W a) (hCa : C a) :
    T ≤ fd_nm n D o r a ∧ (∀ b, fd_In n D b → C b → T0 ≤ fd_nm n D o r b → T ≤ fd_nm n D o r b → fd_nm n D o r a ≤ fd_nm n D o r b) ∧ fd_DT n D o r C T0 (fd_nm n D o r a + 1) F L' p := by
  obtain ⟨l1, l2⟩ := fd_leaf hpn hp hT hS hG hw hW hWs hWd
  obtain ⟨aD, aH, aT⟩ := l2 a ha
  have hRa : fd_Rw n o F L p a := ⟨fd_In_sub hWs ha, by rw [hWd _ (ha _ (hp.1 p (by omega)))]; exact hT.1⟩
  have hTa : T ≤ fd_nm n D o r a := (h a aD hCa aT).mpr ⟨p, Nat.le_refl _, hRa⟩
  -- a raw one is the leaf or still raw
  have split : ∀ b q, q ≤ p → C b → fd_Rw n o F L q b → fd_nm n D o r b = fd_nm n D o r a ∨ fd_Rw n o F L' q b := fun b q hq hCb hR => by
    by_cases c : q = p
    · rw [c] at hR ⊢
      by_cases e : b (o p) = d
      · have hbW := hWc b hR.1 e hCb
        exact Or.inl (fd_nm_congr hp (l1 b a hbW ha))
      · exact Or.inr ⟨hR.1, (hT.2.2.1 _).mpr ⟨hR.2, e⟩⟩
    · exact Or.inr ⟨hR.1, by rw [hT.2.2.2 q (by omega)]; exact hR.2⟩
  refine ⟨hTa, fun b hb hCb h0 hTb => ?_, fun b hb hCb h0 => ⟨fun hlt => ?_, fun ⟨q, hq, hR⟩ => ?_⟩⟩
  · obtain ⟨q, hq, hR⟩ := (h b hb hCb h0).mp hTb
    rcases split b q hq hCb hR with e | e
    · omega
    · have := fd_leaf_lt hp hT hS hWs hWd ha hq e; omega
  · obtain ⟨q, hq, hR⟩ := (h b hb hCb h0).mp (by omega)
    rcases split b q hq hCb hR with e | e
    · omega
    · exact ⟨q, hq, e⟩
  · have := fd_leaf_lt hp hT hS hWs hWd ha hq hR; omega
end
/-! the number of steps -/
def fd_cs (s : Nat → Nat) (n : Nat) : Nat → Nat
  | 0 => 0
  | k + 1 => s (n - 1 - k) * (1 + fd_cs s n k) + 1
def fd_sq (s : Nat → Nat) (n : Nat) : Nat → Nat
  | 0 => 1
  | k + 1 => s (n - 1 - k) * fd_sq s n k
theorem fd_sq_pr (s : Nat → Nat) (n : Nat) : ∀ k, k ≤ n → fd_pr s (n - k) * fd_sq s n k = fd_pr s n := by
  intro k
  induction k with
  | zero => intro _; show fd_pr s n * 1 = _; rw [Nat.mul_one]
  | succ k ih =>
    intro hk
    have a := ih (by omega)
    have e : n - k = (n - (k + 1)) + 1 := by omega
    rw [e, fd_pr_s] at a
    show fd_pr s (n - (k + 1)) * (s (n - 1 - k) * fd_sq s n k) = _
    have e2 : n - 1 - k = n - (k + 1) := by omega
    rw [e2, ← Nat.mul_assoc]; exact a
theorem fd_cs_le {s : Nat → Nat} {n : Nat} (hs : ∀ i, i < n → 0 < s i) : ∀ k, k ≤ n → 0 < fd_sq s n k ∧ fd_cs s n k ≤ 2 * k * fd_sq s n k := by
  intro k
  induction k with
  | zero => intro _; exact ⟨Nat.one_pos, Nat.zero_le _⟩
  | succ k ih =>
    intro hk
    obtain ⟨a, b⟩ := ih (by omega)
    have h1 := hs (n - 1 - k) (by omega)
    refine ⟨Nat.mul_pos h1 a, ?_⟩
    show s (n - 1 - k) * (1 + fd_cs s n k) + 1 ≤ 2 * (k + 1) * (s (n - 1 - k) * fd_sq s n k)
    generalize s (n - 1 - k) = x at h1
    generalize fd_sq s n k = y at a b
    generalize fd_cs s n k = z at b
    have c1 : x * z ≤ x * (2 * k * y) := Nat.mul_le_mul_left x b
    have c2 : x * 1 ≤ x * y := Nat.mul_le_mul_left x a
    have e1 : x * (1 + z) = x + x * z := by rw [Nat.mul_add, Nat.mul_one]
    have e2 : 2 * (k + 1) * (x * y) = 2 * (x * y) + x * (2 * k * y) := by
      rw [Nat.mul_add, Nat.add_mul, Nat.mul_one, Nat.add_comm]
      congr 1
      rw [← Nat.mul_assoc, ← Nat.mul_assoc, Nat.mul_comm (2 * k) x, Nat.mul_assoc x (2 * k) y, ← Nat.mul_assoc x]
    rw [e1, e2]
    omega
theorem fd_cs_16 {s : Nat → Nat} {n : Nat} (hn : n ≤ 8) (hs : ∀ i, i < n → 0 < s i) (ht : fd_pr s n ≤ 1024) : fd_cs s n n ≤ 16384 := by
  have a := (fd_cs_le hs n (Nat.le_refl _)).2
  have b := fd_sq_pr s n n (Nat.le_refl _)
  have e : fd_pr s (n - n) = 1 := by rw [Nat.sub_self]; rfl
  rw [e, Nat.one_mul] at b
  rw [b] at a
  have : 2 * n * fd_pr s n ≤ 16 * 1024 := Nat.mul_le_mul (by omega) ht
  omega
/-- the steps still to be made -/
def fd_po (s : Nat → Nat) (n : Nat) (L : Nat → Int32) (p : Nat) : Nat := fd_ns (fun q => fd_pc (L q) * (1 + fd_cs s n (n - (q + 1))) + 1) (p + 1)
theorem fd_po_pop {s : Nat → Nat} {n : Nat} {L : Nat → Int32} {p : Nat} : fd_po s n L p < fd_po s n L (p + 1) := by
  unfold fd_po
  rw [fd_ns_s _ (p + 1)]
  omega
theorem fd_pc_take {m k : Int32} {d : Nat} (h : bt m d = true) (hk : ∀ e, bt k e = true ↔ (bt m e = true ∧ e ≠ d)) : fd_pc k < fd_pc m := by
  refine fd_pc_lt (fun e he => ((hk e).mp he).1) (fun e => ?_)
  have := (hk d).mp (by rw [e]; exact h)
  exact this.2 rfl
theorem fd_po_take {s : Nat → Nat} {n : Nat} {L L' : Nat → Int32} {p : Nat} (h : fd_pc (L' p) < fd_pc (L p)) (he : ∀ q, q < p → L' q = L q) : fd_po s n L' p + (1 + fd_cs s n (n - (p + 1))) ≤ fd_po s n L p := by
  unfold fd_po
  rw [fd_ns_s, fd_ns_s, fd_ns_congr (g := fun q => fd_pc (L q) * (1 + fd_cs s n (n - (q + 1))) + 1) (fun q hq => by rw [he q hq])]
  have : (fd_pc (L' p) + 1) * (1 + fd_cs s n (n - (p + 1))) ≤ fd_pc (L p) * (1 + fd_cs s n (n - (p + 1))) := Nat.mul_le_mul_right _ h
  rw [Nat.add_mul, Nat.one_mul] at this
  omega
theorem fd_po_deep {s : Nat → Nat} {n : Nat} {L L' : Nat → Int32} {p : Nat} {V : Int32} (hpn : p + 1 < n) (h : fd_pc (L' p) < fd_pc (L p)) (he : ∀ q, q < p → L' q = L q) (hV : fd_pc V ≤ s (p + 1)) : fd_po s n (upd L' (p + 1) V) (p + 1) < fd_po s n L p := by
  have a := fd_po_take (s := s) (n := n) h he
  have b : fd_po s n (upd L' (p + 1) V) (p + 1) = fd_po s n L' p + (fd_pc V * (1 + fd_cs s n (n - (p + 2))) + 1) := by
    unfold fd_po
    rw [fd_ns_s _ (p + 1), pk_us, fd_ns_congr (g := fun q => fd_pc (L' q) * (1 + fd_cs s n (n - (q + 1))) + 1) (fun q hq => by rw [pk_un (by omega)])]
  have c : fd_cs s n (n - (p + 1)) = s (p + 1) * (1 + fd_cs s n (n - (p + 2))) + 1 := by
    have e1 : n - (p + 1) = (n - (p + 2)) + 1 := by omega
    rw [e1]
    show s (n - 1 - (n - (p + 2))) * _ + 1 = _
    have e2 : n - 1 - (n - (p + 2)) = p + 1 := by omega
    rw [e2]
  have d : fd_pc V * (1 + fd_cs s n (n - (p + 2))) ≤ s (p + 1) * (1 + fd_cs s n (n - (p + 2))) := Nat.mul_le_mul_right _ hV
  omega
theorem fd_po_0 {s : Nat → Nat} {n : Nat} {L : Nat → Int32} (hn : 0 < n) (hV : fd_pc (L 0) ≤ s 0) : fd_po s n L 0 ≤ fd_cs s n n := by
  unfold fd_po
  rw [fd_ns_s]
  have c : fd_cs s n n = s 0 * (1 + fd_cs s n (n - 1)) + 1 := by
    have e1 : n = (n - 1) + 1 := by omega
    have e3 : fd_cs s n ((n - 1) + 1) = s (n - 1 - (n - 1)) * (1 + fd_cs s n (n - 1)) + 1 := rfl
    rw [← e1] at e3
    have e2 : n - 1 - (n - 1) = 0 := by omega
    rw [e2] at e3
    exact e3
  have d : fd_pc (L 0) * (1 + fd_cs s n (n - 1)) ≤ s 0 * (1 + fd_cs s n (n - 1)) := Nat.mul_le_mul_right _ hV
  show 0 + (fd_pc (L 0) * (1 + fd_cs s n (n - (0 + 1))) + 1) ≤ _
  rw [Nat.zero_add, Nat.zero_add]
  omega
end
section
/-! ===== X: enter, tryValue, advance ===== -/
/-- a candidate: all constraints hold, and the objective is better where that is asked -/
def fd_Cd (m : Nat) (G : fd_FC) (bd : Int32) (s ob : Int) (a : Nat → Nat) : Prop := (∀ c, c < m → fd_H G c a) ∧ (bd = 1 → s * fd_sum G 12 a < s * ob)
/-- what a search reads -/
def fd_SC (n m : Nat) (G : fd_FC) (mode bd ob : Int32) (s : Int) (dom watch order dir : Nat → Int32) : Prop :=
  (n ≤ 8 ∧ 0 < n ∧ m ≤ 12) ∧ ((∀ c, c < m → fd_WF n G c) ∧ fd_Wt n m G watch ∧ fd_Good n m G dom ∧ fd_tot n dom ≤ 1024) ∧
  (fd_Perm n (fd_or order) ∧ (∀ p, p < n → order p = nI (fd_or order p)) ∧ (∀ v, v < n → dir v = 0 ∨ dir v = 1)) ∧
  fd_Tm n G 12 ∧ (bd = 0 ∨ bd = 1) ∧ ((mode = 2 ∧ s = 1) ∨ (¬ mode = 2 ∧ s = -1)) ∧ (bd = 1 → -1984 ≤ ob.toInt ∧ ob.toInt ≤ 1984)
theorem fd_bf0 {r : Int32} {a b : Nat} (h : r = 0) : fd_bf r a b ↔ a < b := by
  unfold fd_bf; rw [h, if_neg (by decide)]
theorem fd_bf1 {r : Int32} {a b : Nat} (h : r = 1) : fd_bf r a b ↔ b < a := by
  unfold fd_bf; rw [if_pos h]
section
variable {f_objectiveSlot f_maxVariables f_maxConstraints f_maxDepth f_variables f_space f_failed f_terms f_cells f_constraints f_level f_mode f_found f_exhausted f_hasCurrent f_objective f_pending : Int32} {f_matched : Int64} {f_depth f_guided f_bounded : Int32} {a_dom a_watch a_order a_direction a_termA a_termV a_cellX a_kind a_relation a_constant a_first a_second a_size a_number a_scope a_savedDom a_savedConstraints a_decidedVariable a_decidedValue a_current a_work a_sums a_grown : Nat → Int32} {a_image : Nat → Int64} {a_mate a_parent a_queue a_reach a_frames a_left : Nat → Int32} {n m : Nat}
theorem fd_xent80 {post : SX → Prop} {p w cw : Nat} {z0 x4 : Int32} (hn : n ≤ 8) (hpn : p < n) (hw : w < n) (hv : f_variables = nI n) (hc : a_current w = nI cw) (hcw : cw < 32) (hz : (z0 = 3 ∧ a_direction w = 0) ∨ (z0 = 2 ∧ a_direction w = 1)) (h : ∀ V, (∀ e, bt V e = true ↔ (bt x4 e = true ∧ ((e = cw ∨ fd_bf (a_direction w) cw e) ∧ (p + 1 = n → e ≠ cw)))) → post (f_objectiveSlot, f_maxVariables, f_maxConstraints, f_maxDepth, f_variables, f_space, f_failed, f_terms, f_cells, f_constraints, f_level, f_mode, f_found, f_exhausted, f_hasCurrent, f_objective, f_pending, f_matched, f_depth, f_guided, f_bounded, a_dom, a_watch, a_order, a_direction, a_termA, a_termV, a_cellX, a_kind, a_relation, a_constant, a_first, a_second, a_size, a_number, a_scope, a_savedDom, a_savedConstraints, a_decidedVariable, a_decidedValue, a_current, a_work, a_sums, a_grown, a_image, a_mate, a_parent, a_queue, a_reach, a_frames, upd a_left p V)) : wX_enter_80 post (nI p) (nI w) x4 z0 f_objectiveSlot f_maxVariables f_maxConstraints f_maxDepth f_variables f_space f_failed f_terms f_cells f_constraints f_level f_mode f_found f_exhausted f_hasCurrent f_objective f_pending f_matched f_depth f_guided f_bounded a_dom a_watch a_order a_direction a_termA a_termV a_cellX a_kind a_relation a_constant a_first a_second a_size a_number a_scope a_savedDom a_savedConstraints a_decidedVariable a_decidedValue a_current a_work a_sums a_grown a_image a_mate a_parent a_queue a_reach a_frames a_left := by
  have ew : (nI w).toNatClampNeg = w := pk_cl w
  have ep : (nI p).toNatClampNeg = p := pk_cl p
  have ec : (nI cw).toInt = (cw : Int) := nI_toInt (by omega)
  have ev : f_variables - 1 = nI (n - 1) := by rw [hv]; exact pk_sub (b := 1) (by omega)
  unfold wX_enter_80
  rw [ew, hc, ep]
  -- the rest, for a mask of the later values
  have rest : ∀ mk : Int32, (∀ d, d < 32 → (bt mk d = true ↔ (d = cw ∨ fd_bf (a_direction w) cw d))) → ((nI p = (f_variables - 1) → (vp_in (nI w) 8 ∧ (∀ y : Int32, y = (x4 &&& mk) &&& (((1 : Int32) <<< (nI cw &&& 31)) ^^^ (-1)) → (vp_in (nI p) 8 ∧ ∀ z : Nat → Int32, z = upd a_left p y → (post (f_objectiveSlot, f_maxVariables, f_maxConstraints, f_maxDepth, f_variables, f_space, f_failed, f_terms, f_cells, f_constraints, f_level, f_mode, f_found, f_exhausted, f_hasCurrent, f_objective, f_pending, f_matched, f_depth, f_guided, f_bounded, a_dom, a_watch, a_order, a_direction, a_termA, a_termV, a_cellX, a_kind, a_relation, a_constant, a_first, a_second, a_size, a_number, a_scope, a_savedDom, a_savedConstraints, a_decidedVariable, a_decidedValue, a_current, a_work, a_sums, a_grown, a_image, a_mate, a_parent, a_queue, a_reach, a_frames, z)))))) ∧ (¬ nI p = (f_variables - 1) → (vp_in (nI p) 8 ∧ ∀ z : Nat → Int32, z = upd a_left p (x4 &&& mk) → (post (f_objectiveSlot, f_maxVariables, f_maxConstraints, f_maxDepth, f_variables, f_space, f_failed, f_terms, f_cells, f_constraints, f_level, f_mode, f_found, f_exhausted, f_hasCurrent, f_objective, f_pending, f_matched, f_depth, f_guided, f_bounded, a_dom, a_watch, a_order, a_direction, a_termA, a_termV, a_cellX, a_kind, a_relation, a_constant, a_first, a_second, a_size, a_number, a_scope, a_savedDom, a_savedConstraints, a_decidedVariable, a_decidedValue, a_current, a_work, a_sums, a_grown, a_image, a_mate, a_parent, a_queue, a_reach, a_frames, z))))) := by
    intro mk hmk
    rw [ev]
    refine pk_eq p (n - 1) (fun e => ⟨fd_in8 (by omega), nm_e ⟨fd_in8 (by omega), nm_e (h _ (fun d => ?_))⟩⟩) (fun e => ⟨fd_in8 (by omega), nm_e (h _ (fun d => ?_))⟩)
    · rw [fd_cl1 _ hcw, Bool.and_eq_true, b_and, Bool.and_eq_true, Bool.not_eq_true', decide_eq_false_iff_not]
      constructor
      · rintro ⟨⟨a, b⟩, c⟩; exact ⟨a, (hmk d (fd_lt a)).mp b, fun _ => c⟩
      · rintro ⟨a, b, c⟩; exact ⟨⟨a, (hmk d (fd_lt a)).mpr b⟩, c (by omega)⟩
    · rw [b_and, Bool.and_eq_true]
      constructor
      · rintro ⟨a, b⟩; exact ⟨a, (hmk d (fd_lt a)).mp b, fun x => by omega⟩
      · rintro ⟨a, b, _⟩; exact ⟨a, (hmk d (fd_lt a)).mpr b⟩
  rcases hz with ⟨e, hd⟩ | ⟨e, hd⟩
  · subst e
    refine ⟨fd_in8 (by omega), fd_xrmask (rl := 3) (by omega) (fun mk hmk => nm_e (rest mk (fun d hd32 => ?_)))⟩
    rw [hmk d hd32, ec, fd_bf0 hd]
    show (cw : Int) ≤ d ↔ _
    omega
  · subst e
    refine ⟨fd_in8 (by omega), fd_xrmask (rl := 2) (by omega) (fun mk hmk => nm_e (rest mk (fun d hd32 => ?_)))⟩
    rw [hmk d hd32, ec, fd_bf1 hd]
    show (d : Int) ≤ cw ↔ _
    omega
theorem fd_xent20 {post : SX → Prop} {p w cw : Nat} (hn : n ≤ 8) (hpn : p < n) (hw : w < n) (hv : f_variables = nI n) (hd : a_direction w = 0 ∨ a_direction w = 1) (hg : f_guided = 0 ∨ f_guided = 1) (hc : f_guided = 1 → a_current w = nI cw ∧ cw < 32) (h : ∀ V, (∀ e, bt V e = true ↔ (bt (a_work w) e = true ∧ (f_guided = 1 → (e = cw ∨ fd_bf (a_direction w) cw e) ∧ (p + 1 = n → e ≠ cw)))) → post (f_objectiveSlot, f_maxVariables, f_maxConstraints, f_maxDepth, f_variables, f_space, f_failed, f_terms, f_cells, f_constraints, f_level, f_mode, f_found, f_exhausted, f_hasCurrent, f_objective, f_pending, f_matched, f_depth, f_guided, f_bounded, a_dom, a_watch, a_order, a_direction, a_termA, a_termV, a_cellX, a_kind, a_relation, a_constant, a_first, a_second, a_size, a_number, a_scope, a_savedDom, a_savedConstraints, a_decidedVariable, a_decidedValue, a_current, a_work, a_sums, a_grown, a_image, a_mate, a_parent, a_queue, a_reach, fd_sv a_frames a_work (8 * p) n, upd a_left p V)) :
    ∀ t i, i + t = n → ∀ q, t < q → wX_enter_20 post (nI p) (nI (8 * p)) (nI w) f_objectiveSlot f_maxVariables f_maxConstraints f_maxDepth f_variables f_space f_failed f_terms f_cells f_constraints f_level f_mode f_found f_exhausted f_hasCurrent f_objective f_pending f_matched f_depth f_guided f_bounded q (nI i) a_dom a_watch a_order a_direction a_termA a_termV a_cellX a_kind a_relation a_constant a_first a_second a_size a_number a_scope a_savedDom a_savedConstraints a_decidedVariable a_decidedValue a_current a_work a_sums a_grown a_image a_mate a_parent a_queue a_reach (fd_sv a_frames a_work (8 * p) i) a_left := by
  have ew : (nI w).toNatClampNeg = w := pk_cl w
  have ep : (nI p).toNatClampNeg = p := pk_cl p
  intro t
  induction t with
  | zero =>
    intro i hi q hq
    obtain ⟨q, rfl⟩ : ∃ q', q = q' + 1 := ⟨q - 1, by omega⟩
    have e : i = n := by omega
    subst e
    refine pk_le i i (fun _ => ⟨fd_in8 (by omega), ?_⟩) (fun c => absurd c (by omega)) (hx := hv)
    rw [ew, ep]
    refine nm_e ?_
    rcases hg with g | g
    · refine br_t g ⟨fd_in8 (by omega), nm_e (h _ (fun e => ⟨fun x => ⟨x, fun y => by rw [g] at y; exact absurd y (by decide)⟩, fun x => x.1⟩))⟩
    · obtain ⟨c1, c2⟩ := hc g
      have gn : ¬ f_guided = 0 := by rw [g]; decide
      have hh : ∀ V, (∀ e, bt V e = true ↔ (bt (a_work w) e = true ∧ ((e = cw ∨ fd_bf (a_direction w) cw e) ∧ (p + 1 = i → e ≠ cw)))) → post (f_objectiveSlot, f_maxVariables, f_maxConstraints, f_maxDepth, f_variables, f_space, f_failed, f_terms, f_cells, f_constraints, f_level, f_mode, f_found, f_exhausted, f_hasCurrent, f_objective, f_pending, f_matched, f_depth, f_guided, f_bounded, a_dom, a_watch, a_order, a_direction, a_termA, a_termV, a_cellX, a_kind, a_relation, a_constant, a_first, a_second, a_size, a_number, a_scope, a_savedDom, a_savedConstraints, a_decidedVariable, a_decidedValue, a_current, a_work, a_sums, a_grown, a_image, a_mate, a_parent, a_queue, a_reach, fd_sv a_frames a_work (8 * p) i, upd a_left p V) := fun V hV => h V (fun e => by
        rw [hV e]; exact ⟨fun x => ⟨x.1, fun _ => x.2⟩, fun x => ⟨x.1, x.2 g⟩⟩)
      refine br_f gn ⟨fd_in8 (by omega), ?_⟩
      rcases hd with d | d
      · exact br_t d (fd_xent80 (n := i) (a_frames := fd_sv a_frames a_work (8 * p) i) hn hpn hw hv c1 c2 (Or.inl ⟨rfl, d⟩) hh)
      · exact br_f (by rw [d]; decide) (fd_xent80 (n := i) (a_frames := fd_sv a_frames a_work (8 * p) i) hn hpn hw hv c1 c2 (Or.inr ⟨rfl, d⟩) hh)
  | succ t ih =>
    intro i hi q hq
    obtain ⟨q, rfl⟩ : ∃ q', q = q' + 1 := ⟨q - 1, by omega⟩
    have e : (nI i).toNatClampNeg = i := pk_cl i
    have e2 : (nI (8 * p + i)).toNatClampNeg = 8 * p + i := pk_cl _
    refine pk_le n i (fun c => absurd c (by omega)) (fun _ => ⟨pk_in i 8 (by omega), ?_⟩) (hx := hv)
    rw [nI_add, e, e2]
    exact ⟨pk_in (8 * p + i) 64 (by omega), nm_e (nm_r (nI_1 i) (ih (i + 1) (by omega) q (by omega)))⟩
theorem fd_xenter {post : SX → Prop} {p w cw : Nat} {x : Int32} (hx : x = nI p) (hn : n ≤ 8) (hpn : p < n) (hw : w < n) (ho : a_order p = nI w) (hv : f_variables = nI n) (hd : a_direction w = 0 ∨ a_direction w = 1) (hg : f_guided = 0 ∨ f_guided = 1) (hc : f_guided = 1 → a_current w = nI cw ∧ cw < 32) (h : ∀ V, (∀ e, bt V e = true ↔ (bt (a_work w) e = true ∧ (f_guided = 1 → (e = cw ∨ fd_bf (a_direction w) cw e) ∧ (p + 1 = n → e ≠ cw)))) → post (f_objectiveSlot, f_maxVariables, f_maxConstraints, f_maxDepth, f_variables, f_space, f_failed, f_terms, f_cells, f_constraints, f_level, f_mode, f_found, f_exhausted, f_hasCurrent, f_objective, f_pending, f_matched, nI p, f_guided, f_bounded, a_dom, a_watch, a_order, a_direction, a_termA, a_termV, a_cellX, a_kind, a_relation, a_constant, a_first, a_second, a_size, a_number, a_scope, a_savedDom, a_savedConstraints, a_decidedVariable, a_decidedValue, a_current, a_work, a_sums, a_grown, a_image, a_mate, a_parent, a_queue, a_reach, fd_sv a_frames a_work (8 * p) n, upd a_left p V)) : wpX_enter post (f_objectiveSlot, f_maxVariables, f_maxConstraints, f_maxDepth, f_variables, f_space, f_failed, f_terms, f_cells, f_constraints, f_level, f_mode, f_found, f_exhausted, f_hasCurrent, f_objective, f_pending, f_matched, f_depth, f_guided, f_bounded, a_dom, a_watch, a_order, a_direction, a_termA, a_termV, a_cellX, a_kind, a_relation, a_constant, a_first, a_second, a_size, a_number, a_scope, a_savedDom, a_savedConstraints, a_decidedVariable, a_decidedValue, a_current, a_work, a_sums, a_grown, a_image, a_mate, a_parent, a_queue, a_reach, a_frames, a_left) x := by
  subst hx
  have e8 : nI p * 8 = nI (8 * p) := by
    have e : nI p * 8 = nI (p * 8) := pk_mul p 8
    rw [e, Nat.mul_comm]
  have ep : (nI p).toNatClampNeg = p := pk_cl p
  refine nm_r e8 ⟨fd_in8 (by omega), ?_⟩
  rw [ep]
  exact nm_r ho ⟨n + 1, fd_xent20 (f_depth := nI p) hn hpn hw hv hd hg hc h n 0 (by omega) _ (by omega)⟩
theorem fd_xmay {post : Int32 → Prop} {s : Int} (hn : n ≤ 8) (hT : fd_Tm n (a_kind, a_relation, a_constant, a_first, a_second, a_size, a_number, a_scope) 12) (hb : f_bounded = 0 ∨ f_bounded = 1) (hs : (f_mode = 2 ∧ s = 1) ∨ (¬ f_mode = 2 ∧ s = -1)) (ho : f_bounded = 1 → -1984 ≤ f_objective.toInt ∧ f_objective.toInt ≤ 1984) (h1 : (f_bounded = 1 → fd_ls (a_kind, a_relation, a_constant, a_first, a_second, a_size, a_number, a_scope) 12 a_work s < s * f_objective.toInt) → post 1) (h0 : f_bounded = 1 → s * f_objective.toInt ≤ fd_ls (a_kind, a_relation, a_constant, a_first, a_second, a_size, a_number, a_scope) 12 a_work s → post 0) : wpX_mayImprove post (f_objectiveSlot, f_maxVariables, f_maxConstraints, f_maxDepth, f_variables, f_space, f_failed, f_terms, f_cells, f_constraints, f_level, f_mode, f_found, f_exhausted, f_hasCurrent, f_objective, f_pending, f_matched, f_depth, f_guided, f_bounded, a_dom, a_watch, a_order, a_direction, a_termA, a_termV, a_cellX, a_kind, a_relation, a_constant, a_first, a_second, a_size, a_number, a_scope, a_savedDom, a_savedConstraints, a_decidedVariable, a_decidedValue, a_current, a_work, a_sums, a_grown, a_image, a_mate, a_parent, a_queue, a_reach, a_frames, a_left) := by
  rcases hb with b | b
  · exact br_t b (h1 (fun x => by rw [b] at x; exact absurd x (by decide)))
  · refine br_f (by rw [b]; decide) ?_
    have ob := ho b
    have fin : ∀ z : Int32, z.toInt = s → (s = 1 ∨ s = -1) → wX_mayImprove_22 post z f_objectiveSlot f_maxVariables f_maxConstraints f_maxDepth f_variables f_space f_failed f_terms f_cells f_constraints f_level f_mode f_found f_exhausted f_hasCurrent f_objective f_pending f_matched f_depth f_guided f_bounded a_dom a_watch a_order a_direction a_termA a_termV a_cellX a_kind a_relation a_constant a_first a_second a_size a_number a_scope a_savedDom a_savedConstraints a_decidedVariable a_decidedValue a_current a_work a_sums a_grown a_image a_mate a_parent a_queue a_reach a_frames a_left := fun z hz hss => by
      unfold wX_mayImprove_22
      refine fd_xls (c := 12) (s := s) hT hn (by omega) hss hz (fun r hr => ?_)
      have e : (z * f_objective).toInt = s * f_objective.toInt := by
        rw [fd_mul (by rw [hz]; rcases hss with q | q <;> rw [q] <;> omega) (by rw [hz]; rcases hss with q | q <;> rw [q] <;> omega), hz]
      by_cases c : s * f_objective.toInt ≤ fd_ls (a_kind, a_relation, a_constant, a_first, a_second, a_size, a_number, a_scope) 12 a_work s
      · exact br_t (by rw [Int32.le_iff_toInt_le, e, hr]; exact c) (h0 b c)
      · exact br_f (by rw [Int32.le_iff_toInt_le, e, hr]; exact c) (h1 (fun _ => by omega))
    rcases hs with ⟨m2, q⟩ | ⟨m2, q⟩
    · exact br_t m2 (fin 1 (by rw [q]; rfl) (Or.inl q))
    · exact br_f m2 (fin (-1) (by rw [q]; rfl) (Or.inr q))
theorem fd_xtry107 {post : Int32 → SX → Prop} {w d : Nat} {s : Int} {z0 : Int32} {F : Nat → Int32} (hC : fd_SC n m (a_kind, a_relation, a_constant, a_first, a_second, a_size, a_number, a_scope) f_mode f_bounded f_objective s a_dom a_watch a_order a_direction) (hw : w < n) (hF : fd_Good n m (a_kind, a_relation, a_constant, a_first, a_second, a_size, a_number, a_scope) F) (hFt : fd_tot n F ≤ 1024) (hdb : bt (F w) d = true) (hW : ∀ v, v < n → a_work v = F v) (hz : z0 = 0 ∨ z0 = 1)
    (h0 : ∀ W' pe (jm : Int64) (j1 j2 : Nat → Int32) (j3 : Nat → Int64) (j4 j5 j6 j7 : Nat → Int32), (∀ a, fd_In n F a → a w = d → ¬ fd_Cd m (a_kind, a_relation, a_constant, a_first, a_second, a_size, a_number, a_scope) f_bounded s f_objective.toInt a) → post 0 (f_objectiveSlot, f_maxVariables, f_maxConstraints, f_maxDepth, f_variables, f_space, f_failed, f_terms, f_cells, f_constraints, f_level, f_mode, f_found, f_exhausted, f_hasCurrent, f_objective, pe, jm, f_depth, z0, f_bounded, a_dom, a_watch, a_order, a_direction, a_termA, a_termV, a_cellX, a_kind, a_relation, a_constant, a_first, a_second, a_size, a_number, a_scope, a_savedDom, a_savedConstraints, a_decidedVariable, a_decidedValue, a_current, W', j1, j2, j3, j4, j5, j6, j7, a_frames, a_left))
    (h1 : ∀ W' (jm : Int64) (j1 j2 : Nat → Int32) (j3 : Nat → Int64) (j4 j5 j6 j7 : Nat → Int32), fd_Good n m (a_kind, a_relation, a_constant, a_first, a_second, a_size, a_number, a_scope) W' → fd_Sub n W' F → (∀ e, bt (W' w) e = true → e = d) → (∀ a, fd_In n F a → a w = d → fd_Cd m (a_kind, a_relation, a_constant, a_first, a_second, a_size, a_number, a_scope) f_bounded s f_objective.toInt a → fd_In n W' a) → (f_bounded = 1 → fd_ls (a_kind, a_relation, a_constant, a_first, a_second, a_size, a_number, a_scope) 12 W' s < s * f_objective.toInt) → post 1 (f_objectiveSlot, f_maxVariables, f_maxConstraints, f_maxDepth, f_variables, f_space, f_failed, f_terms, f_cells, f_constraints, f_level, f_mode, f_found, f_exhausted, f_hasCurrent, f_objective, 0, jm, f_depth, z0, f_bounded, a_dom, a_watch, a_order, a_direction, a_termA, a_termV, a_cellX, a_kind, a_relation, a_constant, a_first, a_second, a_size, a_number, a_scope, a_savedDom, a_savedConstraints, a_decidedVariable, a_decidedValue, a_current, W', j1, j2, j3, j4, j5, j6, j7, a_frames, a_left)) :
    wX_tryValue_107 post (nI w) (nI d) z0 f_objectiveSlot f_maxVariables f_maxConstraints f_maxDepth f_variables f_space f_failed f_terms f_cells f_constraints f_level f_mode f_found f_exhausted f_hasCurrent f_objective f_pending f_matched f_depth f_guided f_bounded a_dom a_watch a_order a_direction a_termA a_termV a_cellX a_kind a_relation a_constant a_first a_second a_size a_number a_scope a_savedDom a_savedConstraints a_decidedVariable a_decidedValue a_current a_work a_sums a_grown a_image a_mate a_parent a_queue a_reach a_frames a_left := by
  obtain ⟨⟨k1, k2, k3⟩, ⟨k4, k5, k6, k7⟩, ⟨k8, k9, k10⟩, k11, k12, k13, k14⟩ := hC
  have hGW : fd_Good n m (a_kind, a_relation, a_constant, a_first, a_second, a_size, a_number, a_scope) a_work := fd_Good_congr k4 (fun v hv => (hW v hv).symm) hF
  have htW : fd_tot n a_work ≤ 1024 := by rw [fd_tot_eq hW]; exact hFt
  have hd32 := fd_lt hdb
  have hzb : narrow .boolean (.int z0) = .int z0 := fd_nb01 (hz.elim Or.inr Or.inl)
  have hzf : fits .boolean (.int z0) = true := by rcases hz with e | e <;> subst e <;> rfl
  have inD : ∀ a, fd_In n F a → a w = d → fd_In n (upd a_work w (a_work w &&& ((1 : Int32) <<< (nI d &&& 31)))) a := fun a ha e v hv => by
    by_cases c : v = w
    · rw [c, pk_us, b_and, fd_b1 hd32, hW w hw, ha w hw, e, decide_eq_true rfl]; rfl
    · rw [pk_un c, hW v hv]; exact ha v hv
  have hDw : ∀ e, bt (upd a_work w (a_work w &&& ((1 : Int32) <<< (nI d &&& 31))) w) e = true → e = d := fun e he => by
    rw [pk_us, b_and, Bool.and_eq_true, fd_b1 hd32, decide_eq_true_iff] at he
    exact he.2
  unfold wX_tryValue_107
  refine ⟨hzb, hzf, fd_xnar (n := n) hw k1 (fun r p' hN hr => ?_)⟩
  rcases hr with ⟨rfl, z⟩ | ⟨rfl, z⟩
  · have := fd_eq0.mp z d
    rw [b_and, hW w hw, hdb, fd_b1 hd32, decide_eq_true rfl] at this
    exact absurd this (by decide)
  · have hne : fd_NE n (upd a_work w (a_work w &&& ((1 : Int32) <<< (nI d &&& 31)))) := fun v hv => by
      by_cases c : v = w
      · rw [c, pk_us]; exact z
      · rw [pk_un c]; exact hGW.1 v hv
    refine br_f (by decide) (fd_xprop (n := n) (m := m) (D := upd a_work w (a_work w &&& ((1 : Int32) <<< (nI d &&& 31)))) k4 k5 k1 k3 (fd_Pro_init k4 k5 hGW hN hne) (Nat.le_trans (fd_tot_mono hN.1) htW) (fun r W' jm j1 j2 j3 j4 j5 j6 j7 hR => ?_))
    rcases hR with ⟨rfl, hM⟩ | ⟨rfl, hno⟩
    · have hin : ∀ a, fd_In n F a → a w = d → (∀ c, c < m → fd_H (a_kind, a_relation, a_constant, a_first, a_second, a_size, a_number, a_scope) c a) → fd_In n W' a := fun a ha e hH => fd_Max_sol k4 hM (inD a ha e) hH
      refine br_f (by decide) (fd_xmay (n := n) (s := s) k1 k11 k12 k13 k14 (fun hb => ?_) (fun hb hle => ?_))
      · refine br_f (by decide) (h1 W' jm j1 j2 j3 j4 j5 j6 j7 hM.1 (fun v hv e he => ?_) (fun e he => hDw e (hM.2.1 w hw e he)) (fun a ha e hCd => hin a ha e hCd.1) hb)
        have := hN.1 v e (hM.2.1 v hv e he)
        rw [hW v hv] at this
        exact this
      · refine br_t rfl (h0 W' 0 jm j1 j2 j3 j4 j5 j6 j7 (fun a ha e hCd => ?_))
        have x := fd_ls_le (s := s) k11 (hin a ha e hCd.1)
        have y := hCd.2 hb
        omega
    · exact br_t rfl (h0 W' 0 jm j1 j2 j3 j4 j5 j6 j7 (fun a ha e hCd => fd_Non_sol k4 hno (inD a ha e) hCd.1))
theorem fd_xtry53 {post : Int32 → SX → Prop} {p w d cw : Nat} {s : Int} {F : Nat → Int32} (hC : fd_SC n m (a_kind, a_relation, a_constant, a_first, a_second, a_size, a_number, a_scope) f_mode f_bounded f_objective s a_dom a_watch a_order a_direction) (hv : f_variables = nI n) (hpn : p < n) (hw : w < n) (hF : fd_Good n m (a_kind, a_relation, a_constant, a_first, a_second, a_size, a_number, a_scope) F) (hFt : fd_tot n F ≤ 1024) (hdb : bt (F w) d = true) (hfr : ∀ v, v < n → a_frames (8 * p + v) = F v) (hg : f_guided = 0 ∨ f_guided = 1) (hc : f_guided = 1 → a_current w = nI cw ∧ cw < 32)
    (h0 : ∀ W' pe gd' (jm : Int64) (j1 j2 : Nat → Int32) (j3 : Nat → Int64) (j4 j5 j6 j7 : Nat → Int32), ((gd' = 1 ∧ f_guided = 1 ∧ d = cw) ∨ (gd' = 0 ∧ (f_guided = 0 ∨ d ≠ cw))) → (∀ a, fd_In n F a → a w = d → ¬ fd_Cd m (a_kind, a_relation, a_constant, a_first, a_second, a_size, a_number, a_scope) f_bounded s f_objective.toInt a) → post 0 (f_objectiveSlot, f_maxVariables, f_maxConstraints, f_maxDepth, f_variables, f_space, f_failed, f_terms, f_cells, f_constraints, f_level, f_mode, f_found, f_exhausted, f_hasCurrent, f_objective, pe, jm, f_depth, gd', f_bounded, a_dom, a_watch, a_order, a_direction, a_termA, a_termV, a_cellX, a_kind, a_relation, a_constant, a_first, a_second, a_size, a_number, a_scope, a_savedDom, a_savedConstraints, a_decidedVariable, a_decidedValue, a_current, W', j1, j2, j3, j4, j5, j6, j7, a_frames, a_left))
    (h1 : ∀ W' gd' (jm : Int64) (j1 j2 : Nat → Int32) (j3 : Nat → Int64) (j4 j5 j6 j7 : Nat → Int32), ((gd' = 1 ∧ f_guided = 1 ∧ d = cw) ∨ (gd' = 0 ∧ (f_guided = 0 ∨ d ≠ cw))) → fd_Good n m (a_kind, a_relation, a_constant, a_first, a_second, a_size, a_number, a_scope) W' → fd_Sub n W' F → (∀ e, bt (W' w) e = true → e = d) → (∀ a, fd_In n F a → a w = d → fd_Cd m (a_kind, a_relation, a_constant, a_first, a_second, a_size, a_number, a_scope) f_bounded s f_objective.toInt a → fd_In n W' a) → (f_bounded = 1 → fd_ls (a_kind, a_relation, a_constant, a_first, a_second, a_size, a_number, a_scope) 12 W' s < s * f_objective.toInt) → post 1 (f_objectiveSlot, f_maxVariables, f_maxConstraints, f_maxDepth, f_variables, f_space, f_failed, f_terms, f_cells, f_constraints, f_level, f_mode, f_found, f_exhausted, f_hasCurrent, f_objective, 0, jm, f_depth, gd', f_bounded, a_dom, a_watch, a_order, a_direction, a_termA, a_termV, a_cellX, a_kind, a_relation, a_constant, a_first, a_second, a_size, a_number, a_scope, a_savedDom, a_savedConstraints, a_decidedVariable, a_decidedValue, a_current, W', j1, j2, j3, j4, j5, j6, j7, a_frames, a_left)) :
    ∀ t i, i + t = n → ∀ W, (∀ v, v < i → W v = F v) → ∀ q, t < q → wX_tryValue_53 post (nI (8 * p)) (nI w) (nI d) f_objectiveSlot f_maxVariables f_maxConstraints f_maxDepth f_variables f_space f_failed f_terms f_cells f_constraints f_level f_mode f_found f_exhausted f_hasCurrent f_objective f_pending f_matched f_depth f_guided f_bounded q (nI i) a_dom a_watch a_order a_direction a_termA a_termV a_cellX a_kind a_relation a_constant a_first a_second a_size a_number a_scope a_savedDom a_savedConstraints a_decidedVariable a_decidedValue a_current W a_sums a_grown a_image a_mate a_parent a_queue a_reach a_frames a_left := by
  have hn := hC.1.1
  have ew : (nI w).toNatClampNeg = w := pk_cl w
  intro t
  induction t with
  | zero =>
    intro i hi W hW q hq
    obtain ⟨q, rfl⟩ : ∃ q', q = q' + 1 := ⟨q - 1, by omega⟩
    have hW' : ∀ v, v < n → W v = F v := fun v hv => hW v (by omega)
    refine pk_le n i (fun _ => ?_) (fun c => absurd c (by omega)) (hx := hv)
    rcases hg with g | g
    · exact br_t g (fd_xtry107 (a_work := W) hC hw hF hFt hdb hW' (Or.inl rfl) (fun W' pe jm j1 j2 j3 j4 j5 j6 j7 hno => h0 W' pe 0 jm j1 j2 j3 j4 j5 j6 j7 (Or.inr ⟨rfl, Or.inl g⟩) hno) (fun W' jm j1 j2 j3 j4 j5 j6 j7 a b c e f => h1 W' 0 jm j1 j2 j3 j4 j5 j6 j7 (Or.inr ⟨rfl, Or.inl g⟩) a b c e f))
    · obtain ⟨c1, c2⟩ := hc g
      have hd32 := fd_lt hdb
      refine br_f (by rw [g]; decide) ⟨fd_in8 (by omega), ?_⟩
      rw [ew, c1]
      refine pk_eq d cw (fun e => ?_) (fun e => ?_)
      · exact fd_xtry107 (a_work := W) hC hw hF hFt hdb hW' (Or.inr rfl) (fun W' pe jm j1 j2 j3 j4 j5 j6 j7 hno => h0 W' pe 1 jm j1 j2 j3 j4 j5 j6 j7 (Or.inl ⟨rfl, g, e⟩) hno) (fun W' jm j1 j2 j3 j4 j5 j6 j7 a b c x f => h1 W' 1 jm j1 j2 j3 j4 j5 j6 j7 (Or.inl ⟨rfl, g, e⟩) a b c x f)
      · exact fd_xtry107 (a_work := W) hC hw hF hFt hdb hW' (Or.inl rfl) (fun W' pe jm j1 j2 j3 j4 j5 j6 j7 hno => h0 W' pe 0 jm j1 j2 j3 j4 j5 j6 j7 (Or.inr ⟨rfl, Or.inr e⟩) hno) (fun W' jm j1 j2 j3 j4 j5 j6 j7 a b c x f => h1 W' 0 jm j1 j2 j3 j4 j5 j6 j7 (Or.inr ⟨rfl, Or.inr e⟩) a b c x f)
  | succ t ih =>
    intro i hi W hW q hq
    obtain ⟨q, rfl⟩ : ∃ q', q = q' + 1 := ⟨q - 1, by omega⟩
    have e : (nI i).toNatClampNeg = i := pk_cl i
    have e2 : (nI (8 * p + i)).toNatClampNeg = 8 * p + i := pk_cl _
    refine pk_le n i (fun c => absurd c (by omega)) (fun _ => ?_) (hx := hv)
    rw [nI_add, e, e2]
    refine ⟨pk_in (8 * p + i) 64 (by omega), pk_in i 8 (by omega), nm_e (nm_r (nI_1 i) (ih (i + 1) (by omega) _ (fun v hv' => ?_) q (by omega)))⟩
    by_cases c : v = i
    · rw [c, pk_us, hfr i (by omega)]
    · rw [pk_un c]; exact hW v (by omega)
theorem fd_xtry {post : Int32 → SX → Prop} {p w d cw : Nat} {s : Int} {F : Nat → Int32} (hC : fd_SC n m (a_kind, a_relation, a_constant, a_first, a_second, a_size, a_number, a_scope) f_mode f_bounded f_objective s a_dom a_watch a_order a_direction) (hv : f_variables = nI n) (hdp : f_depth = nI p) (hpn : p < n) (hw : w < n) (ho : a_order p = nI w) (hF : fd_Good n m (a_kind, a_relation, a_constant, a_first, a_second, a_size, a_number, a_scope) F) (hFt : fd_tot n F ≤ 1024) (hd : d = if a_direction w = 0 then fd_lo (a_left p) else fd_gr (a_left p)) (hdb : bt (F w) d = true) (hfr : ∀ v, v < n → a_frames (8 * p + v) = F v) (hg : f_guided = 0 ∨ f_guided = 1) (hc : f_guided = 1 → a_current w = nI cw ∧ cw < 32)
    (h0 : ∀ W' pe gd' (jm : Int64) (j1 j2 : Nat → Int32) (j3 : Nat → Int64) (j4 j5 j6 j7 : Nat → Int32), ((gd' = 1 ∧ f_guided = 1 ∧ d = cw) ∨ (gd' = 0 ∧ (f_guided = 0 ∨ d ≠ cw))) → (∀ a, fd_In n F a → a w = d → ¬ fd_Cd m (a_kind, a_relation, a_constant, a_first, a_second, a_size, a_number, a_scope) f_bounded s f_objective.toInt a) → post 0 (f_objectiveSlot, f_maxVariables, f_maxConstraints, f_maxDepth, f_variables, f_space, f_failed, f_terms, f_cells, f_constraints, f_level, f_mode, f_found, f_exhausted, f_hasCurrent, f_objective, pe, jm, f_depth, gd', f_bounded, a_dom, a_watch, a_order, a_direction, a_termA, a_termV, a_cellX, a_kind, a_relation, a_constant, a_first, a_second, a_size, a_number, a_scope, a_savedDom, a_savedConstraints, a_decidedVariable, a_decidedValue, a_current, W', j1, j2, j3, j4, j5, j6, j7, a_frames, upd a_left p (a_left p &&& (((1 : Int32) <<< (nI d &&& 31)) ^^^ (-1)))))
    (h1 : ∀ W' gd' (jm : Int64) (j1 j2 : Nat → Int32) (j3 : Nat → Int64) (j4 j5 j6 j7 : Nat → Int32), ((gd' = 1 ∧ f_guided = 1 ∧ d = cw) ∨ (gd' = 0 ∧ (f_guided = 0 ∨ d ≠ cw))) → fd_Good n m (a_kind, a_relation, a_constant, a_first, a_second, a_size, a_number, a_scope) W' → fd_Sub n W' F → (∀ e, bt (W' w) e = true → e = d) → (∀ a, fd_In n F a → a w = d → fd_Cd m (a_kind, a_relation, a_constant, a_first, a_second, a_size, a_number, a_scope) f_bounded s f_objective.toInt a → fd_In n W' a) → (f_bounded = 1 → fd_ls (a_kind, a_relation, a_constant, a_first, a_second, a_size, a_number, a_scope) 12 W' s < s * f_objective.toInt) → post 1 (f_objectiveSlot, f_maxVariables, f_maxConstraints, f_maxDepth, f_variables, f_space, f_failed, f_terms, f_cells, f_constraints, f_level, f_mode, f_found, f_exhausted, f_hasCurrent, f_objective, 0, jm, f_depth, gd', f_bounded, a_dom, a_watch, a_order, a_direction, a_termA, a_termV, a_cellX, a_kind, a_relation, a_constant, a_first, a_second, a_size, a_number, a_scope, a_savedDom, a_savedConstraints, a_decidedVariable, a_decidedValue, a_current, W', j1, j2, j3, j4, j5, j6, j7, a_frames, upd a_left p (a_left p &&& (((1 : Int32) <<< (nI d &&& 31)) ^^^ (-1))))) : wpX_tryValue post (f_objectiveSlot, f_maxVariables, f_maxConstraints, f_maxDepth, f_variables, f_space, f_failed, f_terms, f_cells, f_constraints, f_level, f_mode, f_found, f_exhausted, f_hasCurrent, f_objective, f_pending, f_matched, f_depth, f_guided, f_bounded, a_dom, a_watch, a_order, a_direction, a_termA, a_termV, a_cellX, a_kind, a_relation, a_constant, a_first, a_second, a_size, a_number, a_scope, a_savedDom, a_savedConstraints, a_decidedVariable, a_decidedValue, a_current, a_work, a_sums, a_grown, a_image, a_mate, a_parent, a_queue, a_reach, a_frames, a_left) := by
  have hn := hC.1.1
  subst hdp
  have e8 : nI p * 8 = nI (8 * p) := by
    have e : nI p * 8 = nI (p * 8) := pk_mul p 8
    rw [e, Nat.mul_comm]
  have ep : (nI p).toNatClampNeg = p := pk_cl p
  refine nm_r e8 ⟨fd_in8 (by omega), ?_⟩
  rw [ep]
  refine nm_r ho ⟨fd_in8 (by omega), fd_xpref (by omega) ?_⟩
  rw [← hd]
  exact ⟨fd_in8 (by omega), fd_in8 (by omega), nm_e ⟨n + 1, fd_xtry53 (f_depth := nI p) hC hv hpn hw hF hFt hdb hfr hg hc h0 h1 n 0 (by omega) a_work (fun v hv => absurd hv (by omega)) _ (by omega)⟩⟩
end
end
section
/-! ===== X: advance ===== -/
/-- a state of the search: candidates from T on are left -/
def fd_ST (n m : Nat) (G : fd_FC) (D : Nat → Int32) (o : Nat → Nat) (r : Nat → Int32) (C : (Nat → Nat) → Prop) (T0 T : Nat) (cur : Nat → Nat) (gd : Int32) (fr lf : Nat → Int32) (p : Nat) : Prop :=
  ∃ F, (∀ q, q ≤ p → ∀ v, v < n → fr (8 * q + v) = F q v) ∧ fd_DS n m G D o r F lf p ∧ fd_DT n D o r C T0 T F lf p ∧ fd_DG n D o r T0 cur gd F lf p ∧ fd_po (fun q => fd_pc (D (o q))) n lf p ≤ 16384
theorem fd_DG_01 {n : Nat} {D : Nat → Int32} {o : Nat → Nat} {r : Nat → Int32} {T0 : Nat} {cur : Nat → Nat} {gd : Int32} {F : Nat → Nat → Int32} {L : Nat → Int32} {p : Nat} (h : fd_DG n D o r T0 cur gd F L p) : gd = 0 ∨ gd = 1 := h.elim (fun z => Or.inl z.1) (fun z => Or.inr z.1)
/-- single domains: the least sum is the sum -/
theorem fd_ls_one {n : Nat} {G : fd_FC} {c : Nat} {W : Nat → Int32} {s : Int} {a : Nat → Nat} (hT : fd_Tm n G c) (hW : fd_NE n W) (h : ∀ v, v < n → ∀ d, bt (W v) d = true → d = a v) : s * fd_sum G c a = fd_ls G c W s :=
  fd_ls_val (fun j hj => by
    have hl := (hT.2.2.1 j hj).1
    exact (h _ hl _ (fd_ta_in (hW _ hl))).symm)
section
variable {f_objectiveSlot f_maxVariables f_maxConstraints f_maxDepth f_variables f_space f_failed f_terms f_cells f_constraints f_level f_mode f_found f_exhausted f_hasCurrent f_objective f_pending : Int32} {f_matched : Int64} {f_depth f_guided f_bounded : Int32} {a_dom a_watch a_order a_direction a_termA a_termV a_cellX a_kind a_relation a_constant a_first a_second a_size a_number a_scope a_savedDom a_savedConstraints a_decidedVariable a_decidedValue a_current a_work a_sums a_grown : Nat → Int32} {a_image : Nat → Int64} {a_mate a_parent a_queue a_reach a_frames a_left : Nat → Int32} {post : Int32 → SX → Prop} {n m : Nat} {s : Int} {T0 T : Nat} {cur : Nat → Nat}
theorem fd_xadv2 (hC : fd_SC n m (a_kind, a_relation, a_constant, a_first, a_second, a_size, a_number, a_scope) f_mode f_bounded f_objective s a_dom a_watch a_order a_direction) (hv : f_variables = nI n)
    (h0 : ∀ (dp gd pe : Int32) fr lf W (jm : Int64) (j1 j2 : Nat → Int32) (j3 : Nat → Int64) (j4 j5 j6 j7 : Nat → Int32), (∀ a, fd_In n a_dom a → fd_Cd m (a_kind, a_relation, a_constant, a_first, a_second, a_size, a_number, a_scope) f_bounded s f_objective.toInt a → T0 ≤ fd_nm n a_dom (fd_or a_order) a_direction a → fd_nm n a_dom (fd_or a_order) a_direction a < T) → post 0 (f_objectiveSlot, f_maxVariables, f_maxConstraints, f_maxDepth, f_variables, f_space, f_failed, f_terms, f_cells, f_constraints, f_level, f_mode, f_found, f_exhausted, f_hasCurrent, f_objective, pe, jm, dp, gd, f_bounded, a_dom, a_watch, a_order, a_direction, a_termA, a_termV, a_cellX, a_kind, a_relation, a_constant, a_first, a_second, a_size, a_number, a_scope, a_savedDom, a_savedConstraints, a_decidedVariable, a_decidedValue, a_current, W, j1, j2, j3, j4, j5, j6, j7, fr, lf))
    (h1 : ∀ p (gd pe : Int32) fr lf W (jm : Int64) (j1 j2 : Nat → Int32) (j3 : Nat → Int64) (j4 j5 j6 j7 : Nat → Int32) a, fd_In n a_dom a → fd_Cd m (a_kind, a_relation, a_constant, a_first, a_second, a_size, a_number, a_scope) f_bounded s f_objective.toInt a → T0 ≤ fd_nm n a_dom (fd_or a_order) a_direction a → T ≤ fd_nm n a_dom (fd_or a_order) a_direction a → (∀ b, fd_In n a_dom b → fd_Cd m (a_kind, a_relation, a_constant, a_first, a_second, a_size, a_number, a_scope) f_bounded s f_objective.toInt b → T0 ≤ fd_nm n a_dom (fd_or a_order) a_direction b → T ≤ fd_nm n a_dom (fd_or a_order) a_direction b → fd_nm n a_dom (fd_or a_order) a_direction a ≤ fd_nm n a_dom (fd_or a_order) a_direction b) → (∀ v, v < n → ∀ d, bt (W v) d = true ↔ d = a v) → p < n → (gd = 1 → ∀ v, v < n → a_current v = nI (cur v)) → fd_ST n m (a_kind, a_relation, a_constant, a_first, a_second, a_size, a_number, a_scope) a_dom (fd_or a_order) a_direction (fd_Cd m (a_kind, a_relation, a_constant, a_first, a_second, a_size, a_number, a_scope) f_bounded s f_objective.toInt) T0 (fd_nm n a_dom (fd_or a_order) a_direction a + 1) cur gd fr lf p → post 1 (f_objectiveSlot, f_maxVariables, f_maxConstraints, f_maxDepth, f_variables, f_space, f_failed, f_terms, f_cells, f_constraints, f_level, f_mode, f_found, f_exhausted, f_hasCurrent, f_objective, pe, jm, nI p, gd, f_bounded, a_dom, a_watch, a_order, a_direction, a_termA, a_termV, a_cellX, a_kind, a_relation, a_constant, a_first, a_second, a_size, a_number, a_scope, a_savedDom, a_savedConstraints, a_decidedVariable, a_decidedValue, a_current, W, j1, j2, j3, j4, j5, j6, j7, fr, lf)) :
    ∀ k step p (gd pe : Int32) fr lf W (jm : Int64) (j1 j2 : Nat → Int32) (j3 : Nat → Int64) (j4 j5 j6 j7 : Nat → Int32) F, fd_po (fun q => fd_pc (a_dom (fd_or a_order q))) n lf p ≤ k → step + k ≤ 32767 → k ≤ 16384 → (∀ q, q ≤ p → ∀ v, v < n → fr (8 * q + v) = F q v) → fd_DS n m (a_kind, a_relation, a_constant, a_first, a_second, a_size, a_number, a_scope) a_dom (fd_or a_order) a_direction F lf p → fd_DT n a_dom (fd_or a_order) a_direction (fd_Cd m (a_kind, a_relation, a_constant, a_first, a_second, a_size, a_number, a_scope) f_bounded s f_objective.toInt) T0 T F lf p → fd_DG n a_dom (fd_or a_order) a_direction T0 cur gd F lf p → (gd = 1 → ∀ v, v < n → a_current v = nI (cur v)) → ∀ q, k < q → wX_advance_2 post q (nI step) f_objectiveSlot f_maxVariables f_maxConstraints f_maxDepth f_variables f_space f_failed f_terms f_cells f_constraints f_level f_mode f_found f_exhausted f_hasCurrent f_objective pe jm (nI p) gd f_bounded a_dom a_watch a_order a_direction a_termA a_termV a_cellX a_kind a_relation a_constant a_first a_second a_size a_number a_scope a_savedDom a_savedConstraints a_decidedVariable a_decidedValue a_current W j1 j2 j3 j4 j5 j6 j7 fr lf := by
  have hC' := hC
  obtain ⟨⟨k1, k2, k3⟩, ⟨k4, k5, k6, k7⟩, ⟨k8, k9, k10⟩, k11, k12, k13, k14⟩ := hC'
  intro k
  induction k with
  | zero =>
    intro step p gd pe fr lf W jm j1 j2 j3 j4 j5 j6 j7 F hpo hst hk hfr hS hT hG hcur q hq
    have : 0 < fd_po (fun q => fd_pc (a_dom (fd_or a_order q))) n lf p := by
      unfold fd_po; rw [fd_ns_s]; omega
    omega
  | succ k ih =>
    intro step p gd pe fr lf W jm j1 j2 j3 j4 j5 j6 j7 F hpo hst hk hfr hS hT hG hcur q hq
    obtain ⟨q, rfl⟩ : ∃ q', q = q' + 1 := ⟨q - 1, by omega⟩
    have hpn := hS.1
    have ep : (nI p).toNatClampNeg = p := pk_cl p
    refine pk_le 32768 step (fun c => absurd c (by omega)) (fun _ => ⟨fd_in8 (by omega), ?_⟩)
    rw [ep]
    by_cases z : lf p = 0
    · refine br_t z ?_
      rcases Nat.eq_zero_or_pos p with hp0 | hp0
      · subst hp0
        exact br_t rfl (h0 _ gd pe fr lf W jm j1 j2 j3 j4 j5 j6 j7 (fd_DT_end z hT))
      · obtain ⟨p', rfl⟩ : ∃ p', p = p' + 1 := ⟨p - 1, by omega⟩
        have hlt := fd_po_pop (s := fun q => fd_pc (a_dom (fd_or a_order q))) (n := n) (L := lf) (p := p')
        exact br_f (nI_ne0 (by omega) (by omega)) (nm_r (nI_pred p') (nm_r (nI_1 step) (ih (step + 1) p' gd pe fr lf W jm j1 j2 j3 j4 j5 j6 j7 F (by omega) (by omega) (by omega) (fun q hq => hfr q (by omega)) (fd_DS_pop hS) (fd_DT_pop z hT) (fd_DG_pop k8 hS hG) hcur q (by omega))))
    · have hw := k8.1 p hpn
      have hFg := (hS.2.1 p (Nat.le_refl _)).1
      have hFs := (hS.2.1 p (Nat.le_refl _)).2.1
      have hFt : fd_tot n (F p) ≤ 1024 := Nat.le_trans (fd_tot_sub hFs) k7
      have hdir := k10 _ hw
      obtain ⟨d, hd⟩ : ∃ d, d = if a_direction (fd_or a_order p) = 0 then fd_lo (lf p) else fd_gr (lf p) := ⟨_, rfl⟩
      have hdL : bt (lf p) d = true := by
        rw [hd]
        by_cases c : a_direction (fd_or a_order p) = 0
        · rw [if_pos c]; exact fd_lo_in z
        · rw [if_neg c]; exact fd_gr_in z
      have hd32 := fd_lt hdL
      have hdF := (hS.2.1 p (Nat.le_refl _)).2.2 d hdL
      have hTk : fd_Tk a_direction (fd_or a_order) lf p d (upd lf p (lf p &&& (((1 : Int32) <<< (nI d &&& 31)) ^^^ (-1)))) := by
        refine ⟨hdL, fun e he => ?_, fun e => ?_, fun q hq => pk_un (by omega)⟩
        · rcases hdir with c | c
          · rw [if_pos c] at hd
            have := fd_lo_le he
            rw [fd_bf0 c, hd]
            omega
          · rw [if_neg (by rw [c]; decide)] at hd
            have := fd_gr_ge he
            rw [fd_bf1 c, hd]
            omega
        · rw [pk_us, fd_cl1 _ hd32, Bool.and_eq_true, Bool.not_eq_true', decide_eq_false_iff_not]
      have hpc : fd_pc (upd lf p (lf p &&& (((1 : Int32) <<< (nI d &&& 31)) ^^^ (-1))) p) < fd_pc (lf p) := fd_pc_take hdL hTk.2.2.1
      have hpt := fd_po_take (s := fun q => fd_pc (a_dom (fd_or a_order q))) (n := n) hpc hTk.2.2.2
      have hcw : gd = 1 → a_current (fd_or a_order p) = nI (cur (fd_or a_order p)) ∧ cur (fd_or a_order p) < 32 := fun g => by
        refine ⟨hcur g _ hw, ?_⟩
        rcases hG with ⟨e, _⟩ | ⟨_, _, h2, _⟩
        · rw [g] at e; exact absurd e (by decide)
        · exact fd_lt (h2 _ hw)
      have hcur' : ∀ gd' : Int32, ((gd' = 1 ∧ gd = 1 ∧ d = cur (fd_or a_order p)) ∨ (gd' = 0 ∧ (gd = 0 ∨ d ≠ cur (fd_or a_order p)))) → gd' = 1 → ∀ v, v < n → a_current v = nI (cur v) := fun gd' hg g1 => by
        rcases hg with ⟨_, g, _⟩ | ⟨g, _⟩
        · exact hcur g
        · rw [g1] at g; exact absurd g (by decide)
      refine br_f z (fd_xtry (n := n) (m := m) (p := p) (w := fd_or a_order p) (d := d) (cw := cur (fd_or a_order p)) (s := s) (F := F p) hC hv rfl hpn hw (k9 p hpn) hFg hFt hd hdF (hfr p (Nat.le_refl _)) (fd_DG_01 hG) hcw (fun W' pe' gd' jm' j1' j2' j3' j4' j5' j6' j7' hg hno => ?_) (fun W' gd' jm' j1' j2' j3' j4' j5' j6' j7' hg hWg hWs hWd hWc hWb => ?_))
      · refine br_t rfl (nm_r (nI_1 step) (ih (step + 1) p gd' pe' fr _ W' jm' j1' j2' j3' j4' j5' j6' j7' F ?_ (by omega) (by omega) hfr (fd_DS_take hTk hS) (fd_DT_fail hTk hno hT) (fd_DG_take k8 hTk hS hG hg) (hcur' gd' hg) q (by omega)))
        omega
      · refine br_f (by decide) ?_
        have ev : f_variables - 1 = nI (n - 1) := by rw [hv]; exact pk_sub (b := 1) (by omega)
        rw [ev]
        refine pk_eq p (n - 1) (fun hl => ?_) (fun hl => ?_)
        · have hpn1 : p + 1 = n := by omega
          obtain ⟨l1, l2⟩ := fd_leaf hpn1 k8 hTk hS hG k4 hWg hWs hWd
          have ha := fd_In_lo hWg.1
          obtain ⟨aD, aH, aT⟩ := l2 _ ha
          have sing : ∀ v, v < n → ∀ d, bt (W' v) d = true → d = fd_lo (W' v) := fun v hv d hd => by
            have := l1 _ _ (fd_In_up ha hd) ha v hv
            rw [fd_up_s] at this
            exact this
          have hCa : fd_Cd m (a_kind, a_relation, a_constant, a_first, a_second, a_size, a_number, a_scope) f_bounded s f_objective.toInt (fun v => fd_lo (W' v)) := ⟨aH, fun b => by
            rw [fd_ls_one k11 hWg.1 sing]; exact hWb b⟩
          obtain ⟨t1, t2, t3⟩ := fd_DT_leaf hpn1 k8 hTk hS hG k4 hWg hWs hWd hWc hT ha hCa
          refine h1 p gd' 0 fr _ W' jm' j1' j2' j3' j4' j5' j6' j7' _ aD hCa aT t1 t2 (fun v hv d => ⟨sing v hv d, fun e => by rw [e]; exact ha v hv⟩) hpn (hcur' gd' hg) ⟨F, hfr, fd_DS_take hTk hS, t3, fd_DG_take k8 hTk hS hG hg, ?_⟩
          omega
        · have hp1 : p + 1 < n := by omega
          have hw1 := k8.1 (p + 1) hp1
          have hgd01 : gd' = 0 ∨ gd' = 1 := hg.elim (fun z => Or.inr z.1) (fun z => Or.inl z.1)
          have hcw1 : gd' = 1 → a_current (fd_or a_order (p + 1)) = nI (cur (fd_or a_order (p + 1))) ∧ cur (fd_or a_order (p + 1)) < 32 := fun g => by
            refine ⟨hcur' gd' hg g _ hw1, ?_⟩
            rcases hg with ⟨_, gg, _⟩ | ⟨gg, _⟩
            · rcases hG with ⟨e, _⟩ | ⟨_, _, h2, _⟩
              · rw [gg] at e; exact absurd e (by decide)
              · exact fd_lt (h2 _ hw1)
            · rw [g] at gg; exact absurd gg (by decide)
          refine fd_xenter (n := n) (p := p + 1) (w := fd_or a_order (p + 1)) (cw := cur (fd_or a_order (p + 1))) (nI_1 p) k1 hp1 hw1 (k9 _ hp1) hv (k10 _ hw1) hgd01 hcw1 (fun V hV => ?_)
          have hVs : ∀ e, bt V e = true → bt (W' (fd_or a_order (p + 1))) e = true := fun e he => ((hV e).mp he).1
          have hVpc : fd_pc V ≤ (fun q => fd_pc (a_dom (fd_or a_order q))) (p + 1) := fd_pc_mono (fun e he => hFs _ hw1 e (hWs _ hw1 e (hVs e he)))
          have hlt := fd_po_deep (s := fun q => fd_pc (a_dom (fd_or a_order q))) (n := n) hp1 hpc hTk.2.2.2 hVpc
          refine nm_r (nI_1 step) (ih (step + 1) (p + 1) gd' 0 _ _ W' jm' j1' j2' j3' j4' j5' j6' j7' (fd_uF F (p + 1) W') (by omega) (by omega) (by omega) (fun q hq v hv' => ?_) (fd_DS_deep hp1 k8 hTk hS hWg hWs hWd hVs) (fd_DT_deep hp1 k8 hTk hS hG hg hWs hWd hWc hV hT) (fd_DG_deep hp1 k8 hTk hS hG hg hWg hWs hWd hV) (hcur' gd' hg) q (by omega))
          by_cases c : q = p + 1
          · rw [c, fd_uF_s, fd_sv_at, if_pos (by omega)]
            congr 1; omega
          · rw [fd_uF_n F W' c, fd_sv_at, if_neg (by omega)]
            exact hfr q (by omega) v hv'
theorem fd_xadv {p : Nat} (hC : fd_SC n m (a_kind, a_relation, a_constant, a_first, a_second, a_size, a_number, a_scope) f_mode f_bounded f_objective s a_dom a_watch a_order a_direction) (hv : f_variables = nI n) (hdp : f_depth = nI p) (hcur : f_guided = 1 → ∀ v, v < n → a_current v = nI (cur v)) (hST : fd_ST n m (a_kind, a_relation, a_constant, a_first, a_second, a_size, a_number, a_scope) a_dom (fd_or a_order) a_direction (fd_Cd m (a_kind, a_relation, a_constant, a_first, a_second, a_size, a_number, a_scope) f_bounded s f_objective.toInt) T0 T cur f_guided a_frames a_left p)
    (h0 : ∀ (dp gd pe : Int32) fr lf W (jm : Int64) (j1 j2 : Nat → Int32) (j3 : Nat → Int64) (j4 j5 j6 j7 : Nat → Int32), (∀ a, fd_In n a_dom a → fd_Cd m (a_kind, a_relation, a_constant, a_first, a_second, a_size, a_number, a_scope) f_bounded s f_objective.toInt a → T0 ≤ fd_nm n a_dom (fd_or a_order) a_direction a → fd_nm n a_dom (fd_or a_order) a_direction a < T) → post 0 (f_objectiveSlot, f_maxVariables, f_maxConstraints, f_maxDepth, f_variables, f_space, f_failed, f_terms, f_cells, f_constraints, f_level, f_mode, f_found, f_exhausted, f_hasCurrent, f_objective, pe, jm, dp, gd, f_bounded, a_dom, a_watch, a_order, a_direction, a_termA, a_termV, a_cellX, a_kind, a_relation, a_constant, a_first, a_second, a_size, a_number, a_scope, a_savedDom, a_savedConstraints, a_decidedVariable, a_decidedValue, a_current, W, j1, j2, j3, j4, j5, j6, j7, fr, lf))
    (h1 : ∀ p (gd pe : Int32) fr lf W (jm : Int64) (j1 j2 : Nat → Int32) (j3 : Nat → Int64) (j4 j5 j6 j7 : Nat → Int32) a, fd_In n a_dom a → fd_Cd m (a_kind, a_relation, a_constant, a_first, a_second, a_size, a_number, a_scope) f_bounded s f_objective.toInt a → T0 ≤ fd_nm n a_dom (fd_or a_order) a_direction a → T ≤ fd_nm n a_dom (fd_or a_order) a_direction a → (∀ b, fd_In n a_dom b → fd_Cd m (a_kind, a_relation, a_constant, a_first, a_second, a_size, a_number, a_scope) f_bounded s f_objective.toInt b → T0 ≤ fd_nm n a_dom (fd_or a_order) a_direction b → T ≤ fd_nm n a_dom (fd_or a_order) a_direction b → fd_nm n a_dom (fd_or a_order) a_direction a ≤ fd_nm n a_dom (fd_or a_order) a_direction b) → (∀ v, v < n → ∀ d, bt (W v) d = true ↔ d = a v) → p < n → (gd = 1 → ∀ v, v < n → a_current v = nI (cur v)) → fd_ST n m (a_kind, a_relation, a_constant, a_first, a_second, a_size, a_number, a_scope) a_dom (fd_or a_order) a_direction (fd_Cd m (a_kind, a_relation, a_constant, a_first, a_second, a_size, a_number, a_scope) f_bounded s f_objective.toInt) T0 (fd_nm n a_dom (fd_or a_order) a_direction a + 1) cur gd fr lf p → post 1 (f_objectiveSlot, f_maxVariables, f_maxConstraints, f_maxDepth, f_variables, f_space, f_failed, f_terms, f_cells, f_constraints, f_level, f_mode, f_found, f_exhausted, f_hasCurrent, f_objective, pe, jm, nI p, gd, f_bounded, a_dom, a_watch, a_order, a_direction, a_termA, a_termV, a_cellX, a_kind, a_relation, a_constant, a_first, a_second, a_size, a_number, a_scope, a_savedDom, a_savedConstraints, a_decidedVariable, a_decidedValue, a_current, W, j1, j2, j3, j4, j5, j6, j7, fr, lf)) : wpX_advance post (f_objectiveSlot, f_maxVariables, f_maxConstraints, f_maxDepth, f_variables, f_space, f_failed, f_terms, f_cells, f_constraints, f_level, f_mode, f_found, f_exhausted, f_hasCurrent, f_objective, f_pending, f_matched, f_depth, f_guided, f_bounded, a_dom, a_watch, a_order, a_direction, a_termA, a_termV, a_cellX, a_kind, a_relation, a_constant, a_first, a_second, a_size, a_number, a_scope, a_savedDom, a_savedConstraints, a_decidedVariable, a_decidedValue, a_current, a_work, a_sums, a_grown, a_image, a_mate, a_parent, a_queue, a_reach, a_frames, a_left) := by
  subst hdp
  obtain ⟨F, a, b, c, d, e⟩ := hST
  exact ⟨16385, fd_xadv2 hC hv h0 h1 16384 0 p f_guided f_pending a_frames a_left a_work _ _ _ _ _ _ _ _ F e (by omega) (by omega) a b c d hcur 16385 (by omega)⟩
/-- the root -/
theorem fd_xroot {post : SX → Prop} {z0 z1 : Int32} (hC : fd_SC n m (a_kind, a_relation, a_constant, a_first, a_second, a_size, a_number, a_scope) f_mode z1 f_objective s a_dom a_watch a_order a_direction) (hv : f_variables = nI n) (hz : (z0 = 0 ∧ T0 = 0) ∨ (z0 = 1 ∧ T0 = fd_nm n a_dom (fd_or a_order) a_direction cur + 1 ∧ fd_In n a_dom cur ∧ ∀ v, v < n → a_current v = nI (cur v)))
    (h : ∀ W fr lf, fd_ST n m (a_kind, a_relation, a_constant, a_first, a_second, a_size, a_number, a_scope) a_dom (fd_or a_order) a_direction (fd_Cd m (a_kind, a_relation, a_constant, a_first, a_second, a_size, a_number, a_scope) z1 s f_objective.toInt) T0 T0 cur z0 fr lf 0 → post (f_objectiveSlot, f_maxVariables, f_maxConstraints, f_maxDepth, f_variables, f_space, f_failed, f_terms, f_cells, f_constraints, f_level, f_mode, f_found, f_exhausted, f_hasCurrent, f_objective, 0, f_matched, nI 0, z0, z1, a_dom, a_watch, a_order, a_direction, a_termA, a_termV, a_cellX, a_kind, a_relation, a_constant, a_first, a_second, a_size, a_number, a_scope, a_savedDom, a_savedConstraints, a_decidedVariable, a_decidedValue, a_current, W, a_sums, a_grown, a_image, a_mate, a_parent, a_queue, a_reach, fr, lf)) : wpX_openRoot post (f_objectiveSlot, f_maxVariables, f_maxConstraints, f_maxDepth, f_variables, f_space, f_failed, f_terms, f_cells, f_constraints, f_level, f_mode, f_found, f_exhausted, f_hasCurrent, f_objective, f_pending, f_matched, f_depth, f_guided, f_bounded, a_dom, a_watch, a_order, a_direction, a_termA, a_termV, a_cellX, a_kind, a_relation, a_constant, a_first, a_second, a_size, a_number, a_scope, a_savedDom, a_savedConstraints, a_decidedVariable, a_decidedValue, a_current, a_work, a_sums, a_grown, a_image, a_mate, a_parent, a_queue, a_reach, a_frames, a_left) z0 z1 := by
  obtain ⟨⟨k1, k2, k3⟩, ⟨k4, k5, k6, k7⟩, ⟨k8, k9, k10⟩, k11, k12, k13, k14⟩ := hC
  have hz0 : z0 = 0 ∨ z0 = 1 := hz.elim (fun x => Or.inl x.1) (fun x => Or.inr x.1)
  have b0 : narrow .boolean (.int z0) = .int z0 := fd_nb01 (hz0.elim Or.inr Or.inl)
  have f0 : fits .boolean (.int z0) = true := by rcases hz0 with e | e <;> subst e <;> rfl
  have b1 : narrow .boolean (.int z1) = .int z1 := fd_nb01 (k12.elim Or.inr Or.inl)
  have f1 : fits .boolean (.int z1) = true := by rcases k12 with e | e <;> subst e <;> rfl
  refine fd_xload (n := n) k1 hv (fun W hW => ⟨b0, f0, b1, f1, ?_⟩)
  have hw := k8.1 0 k2
  refine fd_xenter (n := n) (p := 0) (w := fd_or a_order 0) (cw := cur (fd_or a_order 0)) rfl k1 k2 hw (k9 0 k2) hv (k10 _ hw) hz0 (fun g => ?_) (fun V hV => h W _ _ ?_)
  · rcases hz with ⟨e, _⟩ | ⟨_, _, c1, c2⟩
    · rw [g] at e; exact absurd e (by decide)
    · exact ⟨c2 _ hw, fd_lt (c1 _ hw)⟩
  · have hGW : fd_Good n m (a_kind, a_relation, a_constant, a_first, a_second, a_size, a_number, a_scope) W := fd_Good_congr k4 (fun v hv => (hW v hv).symm) k6
    have hWD : fd_Sub n W a_dom := fun v hv d hd => by rw [← hW v hv]; exact hd
    have hDW : fd_Sub n a_dom W := fun v hv d hd => by rw [hW v hv]; exact hd
    refine ⟨fun _ => W, fun q hq v hv' => ?_, ⟨k2, fun q hq => ⟨hGW, hWD, fun d hd => ?_⟩, fun q s' hq hs => by omega⟩, fun a ha hCa hT0 => ⟨fun _ => ⟨0, Nat.le_refl _, fd_In_sub hDW ha, ?_⟩, fun _ => hT0⟩, ?_, ?_⟩
    · have e : q = 0 := by omega
      rw [e, fd_sv_at, if_pos (by omega)]
      congr 1; omega
    · have e : q = 0 := by omega
      rw [e, pk_us] at hd
      rw [e]; exact ((hV d).mp hd).1
    · rw [pk_us, hV]
      refine ⟨fd_In_sub hDW ha _ hw, fun g => ?_⟩
      rcases hz with ⟨e, _⟩ | ⟨_, e, c1, c2⟩
      · rw [g] at e; exact absurd e (by decide)
      · obtain ⟨p1, hpn, hsame, hbf⟩ := fd_nm_dif (r := a_direction) k8 c1 ha (by omega)
        by_cases z : p1 = 0
        · rw [z] at hbf
          exact ⟨Or.inr hbf, fun _ y => by rw [y] at hbf; exact fd_bf_ir hbf⟩
        · exact ⟨Or.inl (hsame 0 (by omega)).symm, fun y => by omega⟩
    · rcases hz with ⟨e, e2⟩ | ⟨e, e2, c1, c2⟩
      · exact Or.inl ⟨e, fun q hq a hR => by rw [e2]; exact Nat.zero_le _⟩
      · refine Or.inr ⟨e, e2, c1, fun q hq => absurd hq (by omega), fun s' hs => absurd hs (by omega), fun d hd => ?_, fun hn a hR => ?_⟩
        · rw [pk_us] at hd
          exact (((hV d).mp hd).2 e).1
        · obtain ⟨r1, r2⟩ := hR
          rw [pk_us] at r2
          have hv' := ((hV _).mp r2).2 e
          have hb := hv'.1.elim (fun y => absurd y (hv'.2 hn)) id
          rw [e2]
          exact fd_nm_lex k8 c1 (fd_In_sub hWD r1) k2 (fun s' hs => absurd hs (by omega)) hb
    · have hp0 := fd_po_0 (s := fun q => fd_pc (a_dom (fd_or a_order q))) (n := n) (L := upd a_left 0 V) k2 (by
        rw [pk_us]
        exact fd_pc_mono (fun e he => hWD _ hw e ((hV e).mp he).1))
      have h16 := fd_cs_16 (s := fun q => fd_pc (a_dom (fd_or a_order q))) (n := n) k1 (fun i hi => fd_pc_pos (k6.1 _ (k8.1 i hi))) (by
        have e : fd_pr (fun p => fd_pc (a_dom (fd_or a_order p))) n = fd_tot n a_dom := fd_pr_perm (fun v => fd_pc (a_dom v)) (fd_or a_order) n k8.1 k8.2
        rw [e]; exact k7)
      omega
end
end
section
/-! ===== count ===== -/
noncomputable def fd_ch (P : Nat → Prop) : Nat → Bool := fun t => @decide (P t) (Classical.propDecidable (P t))
theorem fd_ch_t {P : Nat → Prop} {t : Nat} (h : P t) : fd_ch P t = true := @decide_eq_true _ (Classical.propDecidable _) h
theorem fd_ch_f {P : Nat → Prop} {t : Nat} (h : ¬ P t) : fd_ch P t = false := @decide_eq_false _ (Classical.propDecidable _) h
/-- t is the number of a solution -/
def fd_So (n m : Nat) (G : fd_FC) (D : Nat → Int32) (o : Nat → Nat) (r : Nat → Int32) (t : Nat) : Prop := ∃ a, fd_In n D a ∧ (∀ c, c < m → fd_H G c a) ∧ fd_nm n D o r a = t
section
variable {n m lv tn cn gn mv mc md : Nat} {f_space f_failed f_mode f_hasCurrent f_objective : Int32} {a_dom a_watch a_order a_direction a_termA a_termV a_cellX a_kind a_relation a_constant a_first a_second a_size a_number a_scope a_savedDom a_savedConstraints a_decidedVariable a_decidedValue a_current : Nat → Int32} {f_current : Int32} {a_made a_terms a_goal a_words a_decision : Nat → Int32}
theorem fd_IR_SC (hI : fd_IR n m lv tn cn gn mv mc md f_space f_failed f_mode f_hasCurrent f_objective a_dom a_watch a_order a_direction a_termA a_termV a_cellX a_kind a_relation a_constant a_first a_second a_size a_number a_scope a_savedDom a_savedConstraints a_decidedVariable a_decidedValue a_current f_current a_made a_terms a_goal a_words a_decision) (hf : f_failed = 0) (hn0 : 0 < n) {bd ob : Int32} {s : Int} (hb : bd = 0 ∨ bd = 1) (hs : (f_mode = 2 ∧ s = 1) ∨ (¬ f_mode = 2 ∧ s = -1)) (hob : bd = 1 → -1984 ≤ ob.toInt ∧ ob.toInt ≤ 1984) : fd_SC n m (a_kind, a_relation, a_constant, a_first, a_second, a_size, a_number, a_scope) f_mode bd ob s a_dom a_watch a_order a_direction := by
  obtain ⟨hG, hS, htot⟩ := fd_IR_D hI hf
  obtain ⟨⟨q1, q2, q3, q4, q5, q6⟩, gV, gT, gC, gK, gD, gL, gM, gU⟩ := hI
  exact ⟨⟨by omega, hn0, by omega⟩, ⟨gK.1, gK.2.2, hG, htot⟩, ⟨gV.1, gV.2.1, gV.2.2.1⟩, gM.2.2.1, hb, hs, hob⟩
end
theorem fd_sgn (mode : Int32) : ∃ s : Int, (mode = 2 ∧ s = 1) ∨ (¬ mode = 2 ∧ s = -1) := by
  by_cases c : mode = 2
  · exact ⟨1, Or.inl ⟨c, rfl⟩⟩
  · exact ⟨-1, Or.inr ⟨c, rfl⟩⟩
section
variable {f_objectiveSlot f_maxVariables f_maxConstraints f_maxDepth f_variables f_space f_failed f_terms f_cells f_constraints f_level f_mode f_found f_exhausted f_hasCurrent f_objective f_pending : Int32} {f_matched : Int64} {f_depth f_guided f_bounded : Int32} {a_dom a_watch a_order a_direction a_termA a_termV a_cellX a_kind a_relation a_constant a_first a_second a_size a_number a_scope a_savedDom a_savedConstraints a_decidedVariable a_decidedValue a_current a_work a_sums a_grown : Nat → Int32} {a_image : Nat → Int64} {a_mate a_parent a_queue a_reach a_frames a_left : Nat → Int32} {post : Int32 → SX → Prop} {n m : Nat} {s : Int} {cur : Nat → Nat}
theorem fd_xcount26 (hC : fd_SC n m (a_kind, a_relation, a_constant, a_first, a_second, a_size, a_number, a_scope) f_mode f_bounded f_objective s a_dom a_watch a_order a_direction) (hb0 : f_bounded = 0) (hv : f_variables = nI n)
    (h : ∀ (dp gd pe : Int32) fr lf W (jm : Int64) (j1 j2 : Nat → Int32) (j3 : Nat → Int64) (j4 j5 j6 j7 : Nat → Int32), post (nI (fd_cn (fd_ch (fd_So n m (a_kind, a_relation, a_constant, a_first, a_second, a_size, a_number, a_scope) a_dom (fd_or a_order) a_direction)) (fd_tot n a_dom))) (f_objectiveSlot, f_maxVariables, f_maxConstraints, f_maxDepth, f_variables, f_space, f_failed, f_terms, f_cells, f_constraints, f_level, f_mode, f_found, f_exhausted, f_hasCurrent, f_objective, pe, jm, dp, gd, f_bounded, a_dom, a_watch, a_order, a_direction, a_termA, a_termV, a_cellX, a_kind, a_relation, a_constant, a_first, a_second, a_size, a_number, a_scope, a_savedDom, a_savedConstraints, a_decidedVariable, a_decidedValue, a_current, W, j1, j2, j3, j4, j5, j6, j7, fr, lf)) :
    ∀ k T p (gd pe : Int32) fr lf W (jm : Int64) (j1 j2 : Nat → Int32) (j3 : Nat → Int64) (j4 j5 j6 j7 : Nat → Int32), fd_tot n a_dom ≤ T + k → T ≤ fd_tot n a_dom → (gd = 1 → ∀ v, v < n → a_current v = nI (cur v)) → fd_ST n m (a_kind, a_relation, a_constant, a_first, a_second, a_size, a_number, a_scope) a_dom (fd_or a_order) a_direction (fd_Cd m (a_kind, a_relation, a_constant, a_first, a_second, a_size, a_number, a_scope) f_bounded s f_objective.toInt) 0 T cur gd fr lf p → ∀ q, k < q → wX_count_26 post q (nI (fd_cn (fd_ch (fd_So n m (a_kind, a_relation, a_constant, a_first, a_second, a_size, a_number, a_scope) a_dom (fd_or a_order) a_direction)) T)) (nI (fd_cn (fd_ch (fd_So n m (a_kind, a_relation, a_constant, a_first, a_second, a_size, a_number, a_scope) a_dom (fd_or a_order) a_direction)) T)) f_objectiveSlot f_maxVariables f_maxConstraints f_maxDepth f_variables f_space f_failed f_terms f_cells f_constraints f_level f_mode f_found f_exhausted f_hasCurrent f_objective pe jm (nI p) gd f_bounded a_dom a_watch a_order a_direction a_termA a_termV a_cellX a_kind a_relation a_constant a_first a_second a_size a_number a_scope a_savedDom a_savedConstraints a_decidedVariable a_decidedValue a_current W j1 j2 j3 j4 j5 j6 j7 fr lf := by
  have hC' := hC
  obtain ⟨⟨k1, k2, k3⟩, ⟨k4, k5, k6, k7⟩, ⟨k8, k9, k10⟩, k11, k12, k13, k14⟩ := hC'
  have hcd : ∀ a, (∀ c, c < m → fd_H (a_kind, a_relation, a_constant, a_first, a_second, a_size, a_number, a_scope) c a) → fd_Cd m (a_kind, a_relation, a_constant, a_first, a_second, a_size, a_number, a_scope) f_bounded s f_objective.toInt a := fun a ha => ⟨ha, fun b => by rw [hb0] at b; exact absurd b (by decide)⟩
  intro k
  induction k with
  | zero =>
    intro T p gd pe fr lf W jm j1 j2 j3 j4 j5 j6 j7 hT hT2 hcur hST q hq
    obtain ⟨q, rfl⟩ : ∃ q', q = q' + 1 := ⟨q - 1, by omega⟩
    have hle := fd_cn_le (fd_ch (fd_So n m (a_kind, a_relation, a_constant, a_first, a_second, a_size, a_number, a_scope) a_dom (fd_or a_order) a_direction)) T
    have eT : T = fd_tot n a_dom := by omega
    refine pk_lt 1024 (fd_cn (fd_ch (fd_So n m (a_kind, a_relation, a_constant, a_first, a_second, a_size, a_number, a_scope) a_dom (fd_or a_order) a_direction)) T) (fun c => absurd c (by omega)) (fun _ => ?_)
    refine fd_xadv (n := n) (m := m) (s := s) (cur := cur) hC hv rfl hcur hST (fun dp gd pe fr lf W jm j1 j2 j3 j4 j5 j6 j7 _ => br_t rfl ?_) (fun p gd pe fr lf W jm j1 j2 j3 j4 j5 j6 j7 a ha hCa h0 hTa => ?_)
    · rw [eT]; exact h dp gd pe fr lf W jm j1 j2 j3 j4 j5 j6 j7
    · have := fd_nm_lt (r := a_direction) k8 ha
      omega
  | succ k ih =>
    intro T p gd pe fr lf W jm j1 j2 j3 j4 j5 j6 j7 hT hT2 hcur hST q hq
    obtain ⟨q, rfl⟩ : ∃ q', q = q' + 1 := ⟨q - 1, by omega⟩
    have hle := fd_cn_le (fd_ch (fd_So n m (a_kind, a_relation, a_constant, a_first, a_second, a_size, a_number, a_scope) a_dom (fd_or a_order) a_direction)) T
    refine pk_lt 1024 (fd_cn (fd_ch (fd_So n m (a_kind, a_relation, a_constant, a_first, a_second, a_size, a_number, a_scope) a_dom (fd_or a_order) a_direction)) T) (fun c => absurd c (by omega)) (fun _ => ?_)
    refine fd_xadv (n := n) (m := m) (s := s) (cur := cur) hC hv rfl hcur hST (fun dp gd pe fr lf W jm j1 j2 j3 j4 j5 j6 j7 hend => br_t rfl ?_) (fun p gd pe fr lf W jm j1 j2 j3 j4 j5 j6 j7 a ha hCa h0 hTa hmin hW hpn hcur' hST' => ?_)
    · have e : fd_cn (fd_ch (fd_So n m (a_kind, a_relation, a_constant, a_first, a_second, a_size, a_number, a_scope) a_dom (fd_or a_order) a_direction)) (fd_tot n a_dom) = fd_cn (fd_ch (fd_So n m (a_kind, a_relation, a_constant, a_first, a_second, a_size, a_number, a_scope) a_dom (fd_or a_order) a_direction)) T := fd_cn_stay (by omega) (fun t h1 h2 => fd_ch_f (fun ⟨a, ha, hH, e⟩ => by
        have := hend a ha (hcd a hH) (Nat.zero_le _)
        omega))
      rw [← e]; exact h dp gd pe fr lf W jm j1 j2 j3 j4 j5 j6 j7
    · have hlt := fd_nm_lt (r := a_direction) k8 ha
      have e1 : fd_cn (fd_ch (fd_So n m (a_kind, a_relation, a_constant, a_first, a_second, a_size, a_number, a_scope) a_dom (fd_or a_order) a_direction)) (fd_nm n a_dom (fd_or a_order) a_direction a) = fd_cn (fd_ch (fd_So n m (a_kind, a_relation, a_constant, a_first, a_second, a_size, a_number, a_scope) a_dom (fd_or a_order) a_direction)) T := fd_cn_stay hTa (fun t h1 h2 => fd_ch_f (fun ⟨b, hb, hH, e⟩ => by
        have := hmin b hb (hcd b hH) (Nat.zero_le _) (by omega)
        omega))
      have e2 : fd_cn (fd_ch (fd_So n m (a_kind, a_relation, a_constant, a_first, a_second, a_size, a_number, a_scope) a_dom (fd_or a_order) a_direction)) (fd_nm n a_dom (fd_or a_order) a_direction a + 1) = fd_cn (fd_ch (fd_So n m (a_kind, a_relation, a_constant, a_first, a_second, a_size, a_number, a_scope) a_dom (fd_or a_order) a_direction)) T + 1 := by
        rw [fd_cn_t (fd_ch_t ⟨a, ha, hCa.1, rfl⟩), e1]
      refine br_f (by decide) (nm_r (nI_1 _) (nm_r (nI_1 _) ?_))
      rw [← e2]
      exact ih _ p gd pe fr lf W jm j1 j2 j3 j4 j5 j6 j7 (by omega) (by omega) hcur' hST' q (by omega)
end
section
variable {f_maxVariables f_maxConstraints f_maxDepth f_vars f_cons f_level f_failed f_termCount f_cellCount f_goalCount f_mode f_found f_exhausted f_current : Int32} {a_made a_dom a_order a_dir a_terms a_cells a_goal a_words a_savedDom a_savedCons a_decision a_val a_seen : Nat → Int32} {post : Int32 → SY → Prop} {n m : Nat} {G : fd_FC} {o : Nat → Nat}
theorem fd_ycount25 (hC : fd_CY n m G o f_vars f_cons a_order a_words) (ht : fd_tot n a_dom ≤ 1024) (h : ∀ val, post (nI (fd_cn (fd_ch (fd_So n m G a_dom o a_dir)) (fd_tot n a_dom))) (f_maxVariables, f_maxConstraints, f_maxDepth, f_vars, f_cons, f_level, f_failed, f_termCount, f_cellCount, f_goalCount, f_mode, f_found, f_exhausted, f_current, a_made, a_dom, a_order, a_dir, a_terms, a_cells, a_goal, a_words, a_savedDom, a_savedCons, a_decision, val, a_seen)) :
    ∀ k t, t + k = fd_tot n a_dom → ∀ va, ∀ q, k < q → wY_count_25 post (nI (fd_tot n a_dom)) q (nI (fd_cn (fd_ch (fd_So n m G a_dom o a_dir)) t)) (nI t) f_maxVariables f_maxConstraints f_maxDepth f_vars f_cons f_level f_failed f_termCount f_cellCount f_goalCount f_mode f_found f_exhausted f_current a_made a_dom a_order a_dir a_terms a_cells a_goal a_words a_savedDom a_savedCons a_decision va a_seen := by
  obtain ⟨hn, hm, hv, hcs, hp, ho, hw, hD⟩ := hC
  intro k
  induction k with
  | zero =>
    intro t htt va q hq
    obtain ⟨q, rfl⟩ : ∃ q', q = q' + 1 := ⟨q - 1, by omega⟩
    have e : t = fd_tot n a_dom := by omega
    refine pk_le (fd_tot n a_dom) t (fun _ => ?_) (fun c => absurd c (by omega))
    rw [e]; exact h va
  | succ k ih =>
    intro t htt va q hq
    obtain ⟨q, rfl⟩ : ∃ q', q = q' + 1 := ⟨q - 1, by omega⟩
    refine pk_le (fd_tot n a_dom) t (fun c => absurd c (by omega)) (fun _ => ?_)
    refine fd_ydecode (a_val := va) hn hv hp ho ht (by omega) (fun val' a ha hnm hval => ?_)
    have ha32 : ∀ v, v < n → a v < 32 := fun v hv => fd_lt (ha v hv)
    refine fd_yall (a_val := val') hw hn hm hcs hD hval ha32 (fun hH => ?_) (fun hH => ?_)
    · have e : fd_cn (fd_ch (fd_So n m G a_dom o a_dir)) (t + 1) = fd_cn (fd_ch (fd_So n m G a_dom o a_dir)) t + 1 := fd_cn_t (fd_ch_t ⟨a, ha, hH, hnm⟩)
      refine br_f (by decide) (nm_r (nI_1 _) (nm_r (nI_1 t) ?_))
      rw [← e]
      exact ih (t + 1) (by omega) val' q (by omega)
    · have e : fd_cn (fd_ch (fd_So n m G a_dom o a_dir)) (t + 1) = fd_cn (fd_ch (fd_So n m G a_dom o a_dir)) t := fd_cn_f (fd_ch_f (fun ⟨b, hb, hbH, hbt⟩ => hH (fun c hc => fd_dep (hw c hc) (fun u hu => fd_nm_inj hp hb ha (by rw [hbt, hnm]) u (fd_Sc_lt (hw c hc) hu)) (hbH c hc))))
      refine br_t rfl (nm_r (nI_1 t) ?_)
      rw [← e]
      exact ih (t + 1) (by omega) val' q (by omega)
end
theorem i_vc_count {k : Nat} {u : SX} {v : SY} (I : i_Rel k u v) (hk : k + 4 ≤ 2051) : wpX_count (fun r u' => wpY_count (fun r' v' => r' = r ∧ i_Rel (k + 4) u' v') v) u := by
  refine fd_el (P := fun u v => wpX_count (fun r u' => wpY_count (fun r' v' => r' = r ∧ i_Rel (k + 4) u' v') v) u) I ?_
  intro n m lv tn cn gn mv mc md f_objectiveSlot f_space f_failed f_mode f_found f_exhausted f_hasCurrent f_objective f_pending f_matched f_depth f_guided f_bounded a_dom a_watch a_order a_direction a_termA a_termV a_cellX a_kind a_relation a_constant a_first a_second a_size a_number a_scope a_savedDom a_savedConstraints a_decidedVariable a_decidedValue a_current a_work a_sums a_grown a_image a_mate a_parent a_queue a_reach a_frames a_left f_current a_made a_terms a_goal a_words a_decision a_val a_seen hI
  obtain ⟨q1, q2, q3, q4, q5, q6⟩ := hI.1
  by_cases hf : f_failed = 0
  · refine br_t hf ?_
    rcases Nat.eq_zero_or_pos n with hn0 | hn0
    · subst hn0
      exact br_t rfl (br_t hf (br_t rfl ⟨rfl, fd_mk hI⟩))
    · have hnz : ¬ nI n = 0 := nI_ne0 hn0 (by omega)
      obtain ⟨hG, hS, htot⟩ := fd_IR_D hI hf
      obtain ⟨s, hs⟩ := fd_sgn f_mode
      have hC : fd_SC n m (a_kind, a_relation, a_constant, a_first, a_second, a_size, a_number, a_scope) f_mode 0 f_objective s a_dom a_watch a_order a_direction := fd_IR_SC hI hf hn0 (Or.inl rfl) hs (fun x => absurd x (by decide))
      refine br_f hnz (fd_xroot (n := n) (m := m) (s := s) (T0 := 0) (cur := fun _ => 0) hC rfl (Or.inl ⟨rfl, rfl⟩) (fun W fr lf hST => ⟨fd_tot n a_dom + 1, ?_⟩))
      refine fd_xcount26 (n := n) (m := m) (s := s) (cur := fun _ => 0) hC rfl rfl (fun dp gd pe fr lf W jm j1 j2 j3 j4 j5 j6 j7 => ?_) (fd_tot n a_dom) 0 0 0 0 fr lf W _ _ _ _ _ _ _ _ (by omega) (by omega) (fun x => absurd x (by decide)) hST _ (by omega)
      refine br_t hf (br_f hnz (fd_ytot (n := n) (by omega) rfl ⟨fd_tot n a_dom + 1, ?_⟩))
      exact fd_ycount25 (n := n) (m := m) (G := (a_kind, a_relation, a_constant, a_first, a_second, a_size, a_number, a_scope)) (o := fd_or a_order) (fd_IR_CY hI) htot (fun val => ⟨rfl, fd_mk hI⟩) (fd_tot n a_dom) 0 (by omega) a_val _ (by omega)
  · exact br_f hf (br_f hf ⟨rfl, fd_mk hI⟩)
end
section
/-! ===== next ===== -/
section
variable {f_objectiveSlot f_maxVariables f_maxConstraints f_maxDepth f_variables f_space f_failed f_terms f_cells f_constraints f_level f_mode f_found f_exhausted f_hasCurrent f_objective f_pending : Int32} {f_matched : Int64} {f_depth f_guided f_bounded : Int32} {a_dom a_watch a_order a_direction a_termA a_termV a_cellX a_kind a_relation a_constant a_first a_second a_size a_number a_scope a_savedDom a_savedConstraints a_decidedVariable a_decidedValue a_current a_work a_sums a_grown : Nat → Int32} {a_image : Nat → Int64} {a_mate a_parent a_queue a_reach a_frames a_left : Nat → Int32} {post : Int32 → SX → Prop} {n : Nat}
theorem fd_xnext63 {a : Nat → Nat} (hn : n ≤ 8) (hv : f_variables = nI n) (hW : ∀ v, v < n → fd_lo (a_work v) = a v) (h : ∀ cu, (∀ v, v < n → cu v = nI (a v)) → ((f_mode = 1 → (wX_next_112 post f_objectiveSlot f_maxVariables f_maxConstraints f_maxDepth f_variables f_space f_failed f_terms f_cells f_constraints f_level f_mode f_found f_exhausted f_hasCurrent f_objective f_pending f_matched f_depth f_guided f_bounded a_dom a_watch a_order a_direction a_termA a_termV a_cellX a_kind a_relation a_constant a_first a_second a_size a_number a_scope a_savedDom a_savedConstraints a_decidedVariable a_decidedValue cu a_work a_sums a_grown a_image a_mate a_parent a_queue a_reach a_frames a_left)) ∧ (¬ f_mode = 1 → (wpX_leastSum (fun r => (wX_next_112 post f_objectiveSlot f_maxVariables f_maxConstraints f_maxDepth f_variables f_space f_failed f_terms f_cells f_constraints f_level f_mode f_found f_exhausted f_hasCurrent r f_pending f_matched f_depth f_guided f_bounded a_dom a_watch a_order a_direction a_termA a_termV a_cellX a_kind a_relation a_constant a_first a_second a_size a_number a_scope a_savedDom a_savedConstraints a_decidedVariable a_decidedValue cu a_work a_sums a_grown a_image a_mate a_parent a_queue a_reach a_frames a_left)) (f_objectiveSlot, f_maxVariables, f_maxConstraints, f_maxDepth, f_variables, f_space, f_failed, f_terms, f_cells, f_constraints, f_level, f_mode, f_found, f_exhausted, f_hasCurrent, f_objective, f_pending, f_matched, f_depth, f_guided, f_bounded, a_dom, a_watch, a_order, a_direction, a_termA, a_termV, a_cellX, a_kind, a_relation, a_constant, a_first, a_second, a_size, a_number, a_scope, a_savedDom, a_savedConstraints, a_decidedVariable, a_decidedValue, cu, a_work, a_sums, a_grown, a_image, a_mate, a_parent, a_queue, a_reach, a_frames, a_left) 12 1)))) :
    ∀ t i, i + t = n → ∀ cu, (∀ v, v < i → cu v = nI (a v)) → ∀ q, t < q → wX_next_63 post f_objectiveSlot f_maxVariables f_maxConstraints f_maxDepth f_variables f_space f_failed f_terms f_cells f_constraints f_level f_mode f_found f_exhausted f_hasCurrent f_objective f_pending f_matched f_depth f_guided f_bounded q (nI i) a_dom a_watch a_order a_direction a_termA a_termV a_cellX a_kind a_relation a_constant a_first a_second a_size a_number a_scope a_savedDom a_savedConstraints a_decidedVariable a_decidedValue cu a_work a_sums a_grown a_image a_mate a_parent a_queue a_reach a_frames a_left := by
  intro t
  induction t with
  | zero =>
    intro i hi cu hc q hq
    obtain ⟨q, rfl⟩ : ∃ q', q = q' + 1 := ⟨q - 1, by omega⟩
    exact pk_le n i (fun _ => h cu (fun v hv => hc v (by omega))) (fun c => absurd c (by omega)) (hx := hv)
  | succ t ih =>
    intro i hi cu hc q hq
    obtain ⟨q, rfl⟩ : ∃ q', q = q' + 1 := ⟨q - 1, by omega⟩
    have e : (nI i).toNatClampNeg = i := pk_cl i
    refine pk_le n i (fun c => absurd c (by omega)) (fun _ => ⟨pk_in i 8 (by omega), fd_xlo ?_⟩) (hx := hv)
    rw [e, hW i (by omega)]
    refine ⟨pk_in i 8 (by omega), nm_e (nm_r (nI_1 i) (ih (i + 1) (by omega) _ (fun v hv' => ?_) q (by omega)))⟩
    by_cases c : v = i
    · rw [c, pk_us]
    · rw [pk_un c]; exact hc v (by omega)
end
section
variable {f_maxVariables f_maxConstraints f_maxDepth f_vars f_cons f_level f_failed f_termCount f_cellCount f_goalCount f_mode f_found f_exhausted f_current : Int32} {a_made a_dom a_order a_dir a_terms a_cells a_goal a_words a_savedDom a_savedCons a_decision a_val a_seen : Nat → Int32} {post : Int32 → SY → Prop} {n m : Nat} {G : fd_FC} {o : Nat → Nat}
/-- Y's test of a better one -/
def fd_Bt (cu md : Int32) (now old : Int) : Prop := cu < 0 ∨ md = 1 ∨ (md = 2 ∧ now < old) ∨ (md = 3 ∧ old < now)
/-- one round of Y's search -/
theorem fd_ynx {J : Int32 → Int32 → Int32 → Int32 → Int32 → Int32 → Int32 → Int32 → Int32 → Int32 → Int32 → Int32 → Int32 → Int32 → Int32 → (Nat → Int32) → (Nat → Int32) → (Nat → Int32) → (Nat → Int32) → (Nat → Int32) → (Nat → Int32) → (Nat → Int32) → (Nat → Int32) → (Nat → Int32) → (Nat → Int32) → (Nat → Int32) → (Nat → Int32) → (Nat → Int32) → Prop} {x1 x2 : Int32} {t : Nat} {r : Int32} {a : Nat → Nat} (hC : fd_CY n m G o f_vars f_cons a_order a_words) (hval : ∀ v, v < n → a_val v = nI (a v)) (ha32 : ∀ v, v < n → a v < 32)
    (hgo : ¬ (fd_Bt f_current f_mode r.toInt x1.toInt ∧ ∀ c, c < m → fd_H G c a) → J (nI (t + 1)) f_maxVariables f_maxConstraints f_maxDepth f_vars f_cons f_level f_failed f_termCount f_cellCount f_goalCount f_mode f_found f_exhausted f_current a_made a_dom a_order a_dir a_terms a_cells a_goal a_words a_savedDom a_savedCons a_decision a_val a_seen) (hyes : (fd_Bt f_current f_mode r.toInt x1.toInt ∧ ∀ c, c < m → fd_H G c a) → post 0 (f_maxVariables, f_maxConstraints, f_maxDepth, f_vars, f_cons, f_level, f_failed, f_termCount, f_cellCount, f_goalCount, f_mode, f_found + 1, f_exhausted, nI t, a_made, a_dom, a_order, a_dir, a_terms, a_cells, a_goal, a_words, a_savedDom, a_savedCons, a_decision, a_val, a_seen)) :
    ((f_current < 0 → (wY_next_112 post J x1 x2 (nI t) f_maxVariables f_maxConstraints f_maxDepth f_vars f_cons f_level f_failed f_termCount f_cellCount f_goalCount f_mode f_found f_exhausted f_current a_made a_dom a_order a_dir a_terms a_cells a_goal a_words a_savedDom a_savedCons a_decision a_val a_seen)) ∧ (¬ f_current < 0 → ((f_mode = 1 → (wY_next_112 post J x1 x2 (nI t) f_maxVariables f_maxConstraints f_maxDepth f_vars f_cons f_level f_failed f_termCount f_cellCount f_goalCount f_mode f_found f_exhausted f_current a_made a_dom a_order a_dir a_terms a_cells a_goal a_words a_savedDom a_savedCons a_decision a_val a_seen)) ∧ (¬ f_mode = 1 → ((f_mode = 2 → ((r < x1 → (wY_next_112 post J x1 x2 (nI t) f_maxVariables f_maxConstraints f_maxDepth f_vars f_cons f_level f_failed f_termCount f_cellCount f_goalCount f_mode f_found f_exhausted f_current a_made a_dom a_order a_dir a_terms a_cells a_goal a_words a_savedDom a_savedCons a_decision a_val a_seen)) ∧ (¬ r < x1 → (wY_next_98 post J x1 x2 (nI t) r f_maxVariables f_maxConstraints f_maxDepth f_vars f_cons f_level f_failed f_termCount f_cellCount f_goalCount f_mode f_found f_exhausted f_current a_made a_dom a_order a_dir a_terms a_cells a_goal a_words a_savedDom a_savedCons a_decision a_val a_seen)))) ∧ (¬ f_mode = 2 → (wY_next_98 post J x1 x2 (nI t) r f_maxVariables f_maxConstraints f_maxDepth f_vars f_cons f_level f_failed f_termCount f_cellCount f_goalCount f_mode f_found f_exhausted f_current a_made a_dom a_order a_dir a_terms a_cells a_goal a_words a_savedDom a_savedCons a_decision a_val a_seen))))))) := by
  obtain ⟨hn, hm, hv, hcs, hp, ho, hw, hD⟩ := hC
  have y1 : fd_Bt f_current f_mode r.toInt x1.toInt → wY_next_112 post J x1 x2 (nI t) f_maxVariables f_maxConstraints f_maxDepth f_vars f_cons f_level f_failed f_termCount f_cellCount f_goalCount f_mode f_found f_exhausted f_current a_made a_dom a_order a_dir a_terms a_cells a_goal a_words a_savedDom a_savedCons a_decision a_val a_seen := fun hB => by
    unfold wY_next_112 wY_next_117
    refine br_f (by decide) (fd_yall hw hn hm hcs hD hval ha32 (fun hH => br_f (by decide) (nm_e (hyes ⟨hB, hH⟩))) (fun hH => br_t rfl (nm_r (nI_1 t) (hgo (fun z => hH z.2)))))
  have y0 : ¬ fd_Bt f_current f_mode r.toInt x1.toInt → wY_next_116 post J x1 x2 (nI t) f_maxVariables f_maxConstraints f_maxDepth f_vars f_cons f_level f_failed f_termCount f_cellCount f_goalCount f_mode f_found f_exhausted f_current a_made a_dom a_order a_dir a_terms a_cells a_goal a_words a_savedDom a_savedCons a_decision a_val a_seen := fun hB => by
    unfold wY_next_116 wY_next_117
    exact br_t rfl (nm_r (nI_1 t) (hgo (fun z => hB z.1)))
  refine br_c (fun c => y1 (Or.inl c)) (fun c => br_c (fun c1 => y1 (Or.inr (Or.inl c1))) (fun c1 => ?_))
  have y98 : (¬ (f_mode = 2 ∧ r.toInt < x1.toInt)) → wY_next_98 post J x1 x2 (nI t) r f_maxVariables f_maxConstraints f_maxDepth f_vars f_cons f_level f_failed f_termCount f_cellCount f_goalCount f_mode f_found f_exhausted f_current a_made a_dom a_order a_dir a_terms a_cells a_goal a_words a_savedDom a_savedCons a_decision a_val a_seen := fun h2 => by
    unfold wY_next_98
    refine br_c (fun c3 => br_c (fun c4 => y0 ?_) (fun c4 => y1 (Or.inr (Or.inr (Or.inr ⟨c3, ?_⟩))))) (fun c3 => y0 ?_)
    · rw [Int32.le_iff_toInt_le] at c4
      rintro (z | z | z | z)
      · exact c z
      · exact c1 z
      · exact h2 z
      · omega
    · rw [Int32.le_iff_toInt_le] at c4
      omega
    · rintro (z | z | z | z)
      · exact c z
      · exact c1 z
      · exact h2 z
      · exact c3 z.1
  refine br_c (fun c2 => br_c (fun c4 => y1 (Or.inr (Or.inr (Or.inl ⟨c2, ?_⟩)))) (fun c4 => y98 ?_)) (fun c2 => y98 (fun z => c2 z.1))
  · rw [Int32.lt_iff_toInt_lt] at c4; exact c4
  · rw [Int32.lt_iff_toInt_lt] at c4
    exact fun z => c4 z.2
/-- Y finds nothing -/
theorem fd_ynx53e {x1 : Int32} (hC : fd_CY n m G o f_vars f_cons a_order a_words) (ht : fd_tot n a_dom ≤ 1024) (hT : fd_Tm n G 12) (hg : fd_Go G a_goal) (hgc : f_goalCount = nI (fd_sz G 12)) (hno : ∀ a, fd_In n a_dom a → ∀ t0, t0 ≤ fd_nm n a_dom o a_dir a → t0 = t0 → True) {T0 : Nat} (hno2 : ∀ a, fd_In n a_dom a → T0 ≤ fd_nm n a_dom o a_dir a → ¬ (fd_Bt f_current f_mode (fd_sum G 12 a) x1.toInt ∧ ∀ c, c < m → fd_H G c a)) (h : ∀ val, post 2 (f_maxVariables, f_maxConstraints, f_maxDepth, f_vars, f_cons, f_level, f_failed, f_termCount, f_cellCount, f_goalCount, f_mode, f_found, 1, f_current, a_made, a_dom, a_order, a_dir, a_terms, a_cells, a_goal, a_words, a_savedDom, a_savedCons, a_decision, val, a_seen)) :
    ∀ k t, t + k = fd_tot n a_dom → T0 ≤ t → ∀ va, ∀ q, k < q → wY_next_53 post x1 (nI (fd_tot n a_dom)) q (nI t) f_maxVariables f_maxConstraints f_maxDepth f_vars f_cons f_level f_failed f_termCount f_cellCount f_goalCount f_mode f_found f_exhausted f_current a_made a_dom a_order a_dir a_terms a_cells a_goal a_words a_savedDom a_savedCons a_decision va a_seen := by
  have hC' := hC
  obtain ⟨hn, hm, hv, hcs, hp, ho, hw, hD⟩ := hC'
  intro k
  induction k with
  | zero =>
    intro t htt h0 va q hq
    obtain ⟨q, rfl⟩ : ∃ q', q = q' + 1 := ⟨q - 1, by omega⟩
    exact pk_le (fd_tot n a_dom) t (fun _ => h va) (fun c => absurd c (by omega))
  | succ k ih =>
    intro t htt h0 va q hq
    obtain ⟨q, rfl⟩ : ∃ q', q = q' + 1 := ⟨q - 1, by omega⟩
    refine pk_le (fd_tot n a_dom) t (fun c => absurd c (by omega)) (fun _ => ?_)
    refine fd_ydecode (a_val := va) hn hv hp ho ht (by omega) (fun val' a ha hnm hval => ?_)
    have ha32 : ∀ v, v < n → a v < 32 := fun v hv => fd_lt (ha v hv)
    refine fd_yobj (a_val := val') hn hT hg hgc hval ha32 (fun r hr => ?_)
    refine fd_ynx (a_val := val') hC hval ha32 (fun _ => ih (t + 1) (by omega) (by omega) val' q (by omega)) (fun hy => absurd hy ?_)
    rw [hr]
    exact hno2 a ha (by omega)
/-- Y finds a0 -/
theorem fd_ynx53f {x1 : Int32} (hC : fd_CY n m G o f_vars f_cons a_order a_words) (ht : fd_tot n a_dom ≤ 1024) (hT : fd_Tm n G 12) (hg : fd_Go G a_goal) (hgc : f_goalCount = nI (fd_sz G 12)) {T0 : Nat} {a0 : Nat → Nat} (ha0 : fd_In n a_dom a0) (hyes : fd_Bt f_current f_mode (fd_sum G 12 a0) x1.toInt ∧ ∀ c, c < m → fd_H G c a0) (hmin : ∀ a, fd_In n a_dom a → T0 ≤ fd_nm n a_dom o a_dir a → (fd_Bt f_current f_mode (fd_sum G 12 a) x1.toInt ∧ ∀ c, c < m → fd_H G c a) → fd_nm n a_dom o a_dir a0 ≤ fd_nm n a_dom o a_dir a) (h : ∀ val, post 0 (f_maxVariables, f_maxConstraints, f_maxDepth, f_vars, f_cons, f_level, f_failed, f_termCount, f_cellCount, f_goalCount, f_mode, f_found + 1, f_exhausted, nI (fd_nm n a_dom o a_dir a0), a_made, a_dom, a_order, a_dir, a_terms, a_cells, a_goal, a_words, a_savedDom, a_savedCons, a_decision, val, a_seen)) :
    ∀ k t, t + k = fd_nm n a_dom o a_dir a0 → T0 ≤ t → ∀ va, ∀ q, k < q → wY_next_53 post x1 (nI (fd_tot n a_dom)) q (nI t) f_maxVariables f_maxConstraints f_maxDepth f_vars f_cons f_level f_failed f_termCount f_cellCount f_goalCount f_mode f_found f_exhausted f_current a_made a_dom a_order a_dir a_terms a_cells a_goal a_words a_savedDom a_savedCons a_decision va a_seen := by
  have hC' := hC
  obtain ⟨hn, hm, hv, hcs, hp, ho, hw, hD⟩ := hC'
  have hlt := fd_nm_lt (r := a_dir) hp ha0
  intro k
  induction k with
  | zero =>
    intro t htt h0 va q hq
    obtain ⟨q, rfl⟩ : ∃ q', q = q' + 1 := ⟨q - 1, by omega⟩
    have e : t = fd_nm n a_dom o a_dir a0 := by omega
    refine pk_le (fd_tot n a_dom) t (fun c => absurd c (by omega)) (fun _ => ?_)
    refine fd_ydecode (a_val := va) hn hv hp ho ht (by omega) (fun val' a ha hnm hval => ?_)
    have ha32 : ∀ v, v < n → a v < 32 := fun v hv => fd_lt (ha v hv)
    have same := fd_nm_inj hp ha ha0 (by rw [hnm]; exact e)
    refine fd_yobj (a_val := val') hn hT hg hgc hval ha32 (fun r hr => ?_)
    refine fd_ynx (a_val := val') hC hval ha32 (fun hy => absurd ?_ hy) (fun _ => ?_)
    · rw [hr, fd_sum_dep (b := a0) (fun j hj => same _ (hT.2.2.1 j hj).1)]
      exact ⟨hyes.1, fun c hc => fd_dep (hw c hc) (fun u hu => (same u (fd_Sc_lt (hw c hc) hu)).symm) (hyes.2 c hc)⟩
    · rw [e]; exact h val'
  | succ k ih =>
    intro t htt h0 va q hq
    obtain ⟨q, rfl⟩ : ∃ q', q = q' + 1 := ⟨q - 1, by omega⟩
    refine pk_le (fd_tot n a_dom) t (fun c => absurd c (by omega)) (fun _ => ?_)
    refine fd_ydecode (a_val := va) hn hv hp ho ht (by omega) (fun val' a ha hnm hval => ?_)
    have ha32 : ∀ v, v < n → a v < 32 := fun v hv => fd_lt (ha v hv)
    refine fd_yobj (a_val := val') hn hT hg hgc hval ha32 (fun r hr => ?_)
    refine fd_ynx (a_val := val') hC hval ha32 (fun _ => ih (t + 1) (by omega) (by omega) val' q (by omega)) (fun hy => absurd hy (fun hy => ?_))
    rw [hr] at hy
    have := hmin a ha (by omega) hy
    omega
end
section
variable {n m lv tn cn gn mv mc md : Nat} {f_space f_failed f_mode f_hasCurrent f_objective : Int32} {a_dom a_watch a_order a_direction a_termA a_termV a_cellX a_kind a_relation a_constant a_first a_second a_size a_number a_scope a_savedDom a_savedConstraints a_decidedVariable a_decidedValue a_current : Nat → Int32} {f_current : Int32} {a_made a_terms a_goal a_words a_decision : Nat → Int32}
/-- a solution found -/
theorem fd_IR_found (hI : fd_IR n m lv tn cn gn mv mc md f_space f_failed f_mode f_hasCurrent f_objective a_dom a_watch a_order a_direction a_termA a_termV a_cellX a_kind a_relation a_constant a_first a_second a_size a_number a_scope a_savedDom a_savedConstraints a_decidedVariable a_decidedValue a_current f_current a_made a_terms a_goal a_words a_decision) (hm : f_mode ≠ 0) {a : Nat → Nat} (ha : fd_In n a_dom a) {cu : Nat → Int32} (hcu : ∀ v, v < n → cu v = nI (a v)) {ob : Int32} (hob : f_mode ≠ 1 → ob.toInt = fd_sum (a_kind, a_relation, a_constant, a_first, a_second, a_size, a_number, a_scope) 12 a) : fd_IR n m lv tn cn gn mv mc md f_space f_failed f_mode 1 ob a_dom a_watch a_order a_direction a_termA a_termV a_cellX a_kind a_relation a_constant a_first a_second a_size a_number a_scope a_savedDom a_savedConstraints a_decidedVariable a_decidedValue cu (nI (fd_nm n a_dom (fd_or a_order) a_direction a)) a_made a_terms a_goal a_words a_decision := by
  obtain ⟨gN, gV, gT, gC, gK, gD, gL, gM, gU⟩ := hI
  exact ⟨gN, gV, gT, gC, gK, gD, gL, gM, Or.inr ⟨rfl, hm, a, ha, rfl, hcu, hob⟩⟩
end
section
variable {n m lv tn cn gn mv mc md : Nat} {f_objectiveSlot f_space f_failed f_mode f_found f_exhausted f_hasCurrent f_objective f_pending : Int32} {f_matched : Int64} {f_depth f_guided f_bounded : Int32} {a_dom a_watch a_order a_direction a_termA a_termV a_cellX a_kind a_relation a_constant a_first a_second a_size a_number a_scope a_savedDom a_savedConstraints a_decidedVariable a_decidedValue a_current a_work a_sums a_grown : Nat → Int32} {a_image : Nat → Int64} {a_mate a_parent a_queue a_reach a_frames a_left : Nat → Int32} {f_current : Int32} {a_made a_terms a_goal a_words a_decision a_val a_seen : Nat → Int32}
/-- the search itself, from T0 on -/
theorem fd_next_go {k : Nat} (hI : fd_IR n m lv tn cn gn mv mc md f_space f_failed f_mode f_hasCurrent f_objective a_dom a_watch a_order a_direction a_termA a_termV a_cellX a_kind a_relation a_constant a_first a_second a_size a_number a_scope a_savedDom a_savedConstraints a_decidedVariable a_decidedValue a_current f_current a_made a_terms a_goal a_words a_decision) (hm : ¬ f_mode = 0) (hx : f_exhausted = 0) {bd z : Int32} {s : Int} {x1 : Int32} {T0 : Nat} {cur : Nat → Nat} (hs : (f_mode = 2 ∧ s = 1) ∨ (¬ f_mode = 2 ∧ s = -1)) (hb : bd = 0 ∨ bd = 1) (hob : bd = 1 → -1984 ≤ f_objective.toInt ∧ f_objective.toInt ≤ 1984)
    (hz : (z = 0 ∧ T0 = 0) ∨ (z = 1 ∧ T0 = fd_nm n a_dom (fd_or a_order) a_direction cur + 1 ∧ fd_In n a_dom cur ∧ ∀ v, v < n → a_current v = nI (cur v)))
    (hBt : ∀ a, (bd = 1 → s * fd_sum (a_kind, a_relation, a_constant, a_first, a_second, a_size, a_number, a_scope) 12 a < s * f_objective.toInt) ↔ fd_Bt f_current f_mode (fd_sum (a_kind, a_relation, a_constant, a_first, a_second, a_size, a_number, a_scope) 12 a) x1.toInt)
    (hy : ∀ (post : Int32 → SY → Prop) (val : Nat → Int32), (∃ q, wY_next_53 post x1 (nI (fd_tot n a_dom)) q (nI T0) (nI mv) (nI mc) (nI md) (nI n) (nI m) (nI lv) f_failed (nI tn) (nI cn) (nI gn) f_mode f_found f_exhausted f_current a_made a_dom a_order a_direction a_terms a_cellX a_goal a_words a_savedDom a_savedConstraints a_decision val a_seen) → True)
    (hY : ∀ (post : Int32 → SY → Prop), (∀ val, ∃ q, wY_next_53 post x1 (nI (fd_tot n a_dom)) q (nI T0) (nI mv) (nI mc) (nI md) (nI n) (nI m) (nI lv) f_failed (nI tn) (nI cn) (nI gn) f_mode f_found f_exhausted f_current a_made a_dom a_order a_direction a_terms a_cellX a_goal a_words a_savedDom a_savedConstraints a_decision val a_seen) → wpY_next post (nI mv, nI mc, nI md, nI n, nI m, nI lv, f_failed, nI tn, nI cn, nI gn, f_mode, f_found, f_exhausted, f_current, a_made, a_dom, a_order, a_direction, a_terms, a_cellX, a_goal, a_words, a_savedDom, a_savedConstraints, a_decision, a_val, a_seen)) :
    wX_next_44 (fun r u' => wpY_next (fun r' v' => r' = r ∧ i_Rel (k + 4) u' v') (nI mv, nI mc, nI md, nI n, nI m, nI lv, f_failed, nI tn, nI cn, nI gn, f_mode, f_found, f_exhausted, f_current, a_made, a_dom, a_order, a_direction, a_terms, a_cellX, a_goal, a_words, a_savedDom, a_savedConstraints, a_decision, a_val, a_seen)) bd z f_objectiveSlot (nI mv) (nI mc) (nI md) (nI n) f_space f_failed (nI tn) (nI cn) (nI m) (nI lv) f_mode f_found f_exhausted f_hasCurrent f_objective f_pending f_matched f_depth f_guided f_bounded a_dom a_watch a_order a_direction a_termA a_termV a_cellX a_kind a_relation a_constant a_first a_second a_size a_number a_scope a_savedDom a_savedConstraints a_decidedVariable a_decidedValue a_current a_work a_sums a_grown a_image a_mate a_parent a_queue a_reach a_frames a_left := by
  obtain ⟨q1, q2, q3, q4, q5, q6⟩ := hI.1
  have gM := hI.2.2.2.2.2.2.2.1
  have hf := (gM.2.1 hm).1
  have hn0 := (gM.2.1 hm).2
  obtain ⟨hG, hS, htot⟩ := fd_IR_D hI hf
  have hC : fd_SC n m (a_kind, a_relation, a_constant, a_first, a_second, a_size, a_number, a_scope) f_mode bd f_objective s a_dom a_watch a_order a_direction := fd_IR_SC hI hf hn0 hb hs hob
  have o1 := hI.2.1.1
  have hT12 := gM.2.2.1
  have hgc : nI gn = nI (fd_sz (a_kind, a_relation, a_constant, a_first, a_second, a_size, a_number, a_scope) 12) := by rw [gM.2.2.2.1]
  unfold wX_next_44
  refine fd_xroot (n := n) (m := m) (s := s) (T0 := T0) (cur := cur) hC rfl hz (fun W fr lf hST => ?_)
  refine fd_xadv (n := n) (m := m) (s := s) (T0 := T0) (T := T0) (cur := cur) (p := 0) hC rfl rfl (fun g => ?_) hST (fun dp gd pe fr lf W jm j1 j2 j3 j4 j5 j6 j7 hend => ?_) (fun p gd pe fr lf W jm j1 j2 j3 j4 j5 j6 j7 a ha hCa h0 hTa hmin hW hpn hcur' hST' => ?_)
  · rcases hz with ⟨e, _⟩ | ⟨_, _, _, c⟩
    · rw [g] at e; exact absurd e (by decide)
    · exact c
  · refine br_t rfl (hY _ (fun val => ⟨fd_tot n a_dom - T0 + 1, ?_⟩))
    by_cases hle : T0 ≤ fd_tot n a_dom
    · refine fd_ynx53e (n := n) (m := m) (G := (a_kind, a_relation, a_constant, a_first, a_second, a_size, a_number, a_scope)) (o := fd_or a_order) (T0 := T0) (fd_IR_CY hI) htot hT12 gM.2.2.2.2.1 hgc (fun _ _ _ _ _ => trivial) (fun a ha hT0 hB => ?_) (fun val => ⟨rfl, fd_mk hI⟩) (fd_tot n a_dom - T0) T0 (by omega) (Nat.le_refl _) val _ (by omega)
      have := hend a ha ⟨hB.2, (hBt a).mpr hB.1⟩ hT0
      omega
    · exfalso
      rcases hz with ⟨_, e⟩ | ⟨_, e, c, _⟩
      · omega
      · have := fd_nm_lt (r := a_direction) o1 c
        omega
  · have hlo : ∀ v, v < n → fd_lo (W v) = a v := fun v hv => (hW v hv _).mp (fd_lo_in (fd_ne0.mpr ⟨a v, (hW v hv _).mpr rfl⟩))
    have hWne : fd_NE n W := fun v hv => fd_ne0.mpr ⟨a v, (hW v hv _).mpr rfl⟩
    have yend : ∀ {u' : SX}, (∀ val, i_Rel (k + 4) u' (nI mv, nI mc, nI md, nI n, nI m, nI lv, f_failed, nI tn, nI cn, nI gn, f_mode, f_found + 1, f_exhausted, nI (fd_nm n a_dom (fd_or a_order) a_direction a), a_made, a_dom, a_order, a_direction, a_terms, a_cellX, a_goal, a_words, a_savedDom, a_savedConstraints, a_decision, val, a_seen)) → wpY_next (fun r' v' => r' = 0 ∧ i_Rel (k + 4) u' v') (nI mv, nI mc, nI md, nI n, nI m, nI lv, f_failed, nI tn, nI cn, nI gn, f_mode, f_found, f_exhausted, f_current, a_made, a_dom, a_order, a_direction, a_terms, a_cellX, a_goal, a_words, a_savedDom, a_savedConstraints, a_decision, a_val, a_seen) := fun hu => by
      refine hY _ (fun val => ⟨fd_nm n a_dom (fd_or a_order) a_direction a - T0 + 1, ?_⟩)
      refine fd_ynx53f (n := n) (m := m) (G := (a_kind, a_relation, a_constant, a_first, a_second, a_size, a_number, a_scope)) (o := fd_or a_order) (T0 := T0) (a0 := a) (fd_IR_CY hI) htot hT12 gM.2.2.2.2.1 hgc ha ⟨(hBt a).mp hCa.2, hCa.1⟩ (fun b hb hT0 hB => ?_) (fun val => ⟨rfl, hu val⟩) (fd_nm n a_dom (fd_or a_order) a_direction a - T0) T0 (by omega) (Nat.le_refl _) val _ (by omega)
      exact hmin b hb ⟨hB.2, (hBt b).mpr hB.1⟩ hT0 hT0
    refine br_f (by decide) ⟨n + 1, fd_xnext63 (n := n) (a := a) (a_work := W) (by omega) rfl hlo (fun cu hcu => ?_) n 0 (by omega) a_current (fun v hv => absurd hv (by omega)) _ (by omega)⟩
    by_cases h1 : f_mode = 1
    · exact br_t h1 (nm_e (yend (fun val => fd_mk (fd_IR_found hI hm ha hcu (fun x => absurd h1 x)))))
    · refine br_f h1 (fd_xls (n := n) (c := 12) (s := 1) (a_work := W) hT12 (by omega) (by omega) (Or.inl rfl) rfl (fun r hr => nm_e (yend (fun val => fd_mk (fd_IR_found hI hm ha hcu (fun _ => ?_))))))
      rw [hr, ← fd_ls_one (s := 1) hT12 hWne (fun v hv d hd => (hW v hv d).mp hd), Int.one_mul]
end
theorem fd_sum_bd {n : Nat} {G : fd_FC} {c : Nat} {W : Nat → Int32} {a : Nat → Nat} (hT : fd_Tm n G c) (ha : fd_In n W a) : -1984 ≤ fd_sum G c a ∧ fd_sum G c a ≤ 1984 :=
  fd_sm_pbd hT.1 (Nat.le_refl _) (fun i hi => by
    obtain ⟨p, _, q, r⟩ := hT.2.2.1 i hi
    have := fd_lt (ha _ p)
    exact fd_mb q r (by omega) (by omega))
theorem i_vc_next {k : Nat} {u : SX} {v : SY} (I : i_Rel k u v) (hk : k + 4 ≤ 2051) : wpX_next (fun r u' => wpY_next (fun r' v' => r' = r ∧ i_Rel (k + 4) u' v') v) u := by
  refine fd_el (P := fun u v => wpX_next (fun r u' => wpY_next (fun r' v' => r' = r ∧ i_Rel (k + 4) u' v') v) u) I ?_
  intro n m lv tn cn gn mv mc md f_objectiveSlot f_space f_failed f_mode f_found f_exhausted f_hasCurrent f_objective f_pending f_matched f_depth f_guided f_bounded a_dom a_watch a_order a_direction a_termA a_termV a_cellX a_kind a_relation a_constant a_first a_second a_size a_number a_scope a_savedDom a_savedConstraints a_decidedVariable a_decidedValue a_current a_work a_sums a_grown a_image a_mate a_parent a_queue a_reach a_frames a_left f_current a_made a_terms a_goal a_words a_decision a_val a_seen hI
  obtain ⟨q1, q2, q3, q4, q5, q6⟩ := hI.1
  have gM := hI.2.2.2.2.2.2.2.1
  have gU := hI.2.2.2.2.2.2.2.2
  by_cases hm : f_mode = 0
  · exact br_t hm (br_t hm ⟨rfl, fd_mk hI⟩)
  · refine br_f hm ?_
    by_cases hx : f_exhausted = 0
    · refine br_t hx ?_
      have hf := (gM.2.1 hm).1
      obtain ⟨hG, hS, htot⟩ := fd_IR_D hI hf
      obtain ⟨s, hs⟩ := fd_sgn f_mode
      rcases gU with ⟨u1, u2⟩ | ⟨u1, _, cur, hcur, ecur, hcv, hob⟩
      · refine br_t u1 ?_
        show wX_next_44 _ 0 f_hasCurrent f_objectiveSlot (nI mv) (nI mc) (nI md) (nI n) f_space f_failed (nI tn) (nI cn) (nI m) (nI lv) f_mode f_found f_exhausted f_hasCurrent f_objective f_pending f_matched f_depth f_guided f_bounded a_dom a_watch a_order a_direction a_termA a_termV a_cellX a_kind a_relation a_constant a_first a_second a_size a_number a_scope a_savedDom a_savedConstraints a_decidedVariable a_decidedValue a_current a_work a_sums a_grown a_image a_mate a_parent a_queue a_reach a_frames a_left
        refine fd_next_go (x1 := 0) (T0 := 0) (cur := fun _ => 0) hI hm hx hs (Or.inl rfl) (fun x => absurd x (by decide)) (Or.inl ⟨u1, rfl⟩) (fun a => ⟨fun _ => Or.inl (by rw [u2]; decide), fun _ x => absurd x (by decide)⟩) (fun _ _ _ => trivial) (fun post hq => ?_)
        refine br_f hm (br_t hx (br_t (by rw [u2]; decide) ?_))
        have e : f_current + 1 = nI 0 := by rw [u2]; rfl
        exact fd_ytot (n := n) (by omega) rfl (nm_r e (hq a_val))
      · have hlt := fd_nm_lt (r := a_direction) hI.2.1.1 hcur
        have hc0 : ¬ f_hasCurrent = 0 := by rw [u1]; decide
        have hcn : ¬ f_current < 0 := by rw [ecur]; exact nI_pos (by omega)
        have e1 : f_current + 1 = nI (fd_nm n a_dom (fd_or a_order) a_direction cur + 1) := by rw [ecur]; exact nI_1 _
        refine br_f hc0 ?_
        -- Y's side: the old objective, then the loop
        have yside : ∀ (bd : Int32) (x1 : Int32), (∀ r : Int32, r.toInt = fd_sum (a_kind, a_relation, a_constant, a_first, a_second, a_size, a_number, a_scope) 12 cur → r.toInt = x1.toInt) → ∀ (post : Int32 → SY → Prop), (∀ val, ∃ q, wY_next_53 post x1 (nI (fd_tot n a_dom)) q (nI (fd_nm n a_dom (fd_or a_order) a_direction cur + 1)) (nI mv) (nI mc) (nI md) (nI n) (nI m) (nI lv) f_failed (nI tn) (nI cn) (nI gn) f_mode f_found f_exhausted f_current a_made a_dom a_order a_direction a_terms a_cellX a_goal a_words a_savedDom a_savedConstraints a_decision val a_seen) → wpY_next post (nI mv, nI mc, nI md, nI n, nI m, nI lv, f_failed, nI tn, nI cn, nI gn, f_mode, f_found, f_exhausted, f_current, a_made, a_dom, a_order, a_direction, a_terms, a_cellX, a_goal, a_words, a_savedDom, a_savedConstraints, a_decision, a_val, a_seen) := fun bd x1 hx1 post hq => by
          refine br_f hm (br_t hx (br_f hcn (fd_ycur hI u1 (fun val a ha hval hcv' hob' => ?_))))
          have same : ∀ v, v < n → a v = cur v := fun v hv => by
            have h1 := hcv v hv
            rw [hcv' v hv] at h1
            have b1 := fd_lt (ha v hv)
            have b2 := fd_lt (hcur v hv)
            exact (nI_eq (by omega) (by omega)).mp h1
          refine fd_yobj (n := n) (G := (a_kind, a_relation, a_constant, a_first, a_second, a_size, a_number, a_scope)) (a := a) (by omega) gM.2.2.1 gM.2.2.2.2.1 (by rw [gM.2.2.2.1]) hval (fun v hv => fd_lt (ha v hv)) (fun r hr => ?_)
          have er : r = x1 := Int32.toInt_inj.mp (hx1 r (by rw [hr]; exact fd_sum_dep (fun j hj => same _ (gM.2.2.1.2.2.1 j hj).1)))
          subst er
          exact fd_ytot (n := n) (by omega) rfl (nm_r e1 (hq val))
        by_cases h1 : f_mode = 1
        · refine br_t h1 ?_
          show wX_next_44 _ 0 f_hasCurrent f_objectiveSlot (nI mv) (nI mc) (nI md) (nI n) f_space f_failed (nI tn) (nI cn) (nI m) (nI lv) f_mode f_found f_exhausted f_hasCurrent f_objective f_pending f_matched f_depth f_guided f_bounded a_dom a_watch a_order a_direction a_termA a_termV a_cellX a_kind a_relation a_constant a_first a_second a_size a_number a_scope a_savedDom a_savedConstraints a_decidedVariable a_decidedValue a_current a_work a_sums a_grown a_image a_mate a_parent a_queue a_reach a_frames a_left
          -- the old objective is the empty sum
          have hg0 : fd_sz (a_kind, a_relation, a_constant, a_first, a_second, a_size, a_number, a_scope) 12 = 0 := by rw [gM.2.2.2.1]; exact gM.2.2.2.2.2 (Or.inr h1)
          have hs0 : ∀ a, fd_sum (a_kind, a_relation, a_constant, a_first, a_second, a_size, a_number, a_scope) 12 a = 0 := fun a => by unfold fd_sum; rw [hg0]; rfl
          refine fd_next_go (x1 := 0) (cur := cur) hI hm hx hs (Or.inl rfl) (fun x => absurd x (by decide)) (Or.inr ⟨u1, rfl, hcur, hcv⟩) (fun a => ⟨fun _ => Or.inr (Or.inl h1), fun _ x => absurd x (by decide)⟩) (fun _ _ _ => trivial) (yside 0 0 (fun r hr => by rw [hr, hs0]; rfl))
        · refine br_f h1 ?_
          have hobe := hob h1
          have hbd := fd_sum_bd gM.2.2.1 hcur
          refine fd_next_go (x1 := f_objective) (cur := cur) hI hm hx hs (Or.inr rfl) (fun _ => by omega) (Or.inr ⟨u1, rfl, hcur, hcv⟩) (fun a => ?_) (fun _ _ _ => trivial) (yside 1 f_objective (fun r hr => by rw [hr, hobe]))
          constructor
          · intro h
            have h := h rfl
            rcases hs with ⟨m2, e⟩ | ⟨m2, e⟩
            · subst e
              exact Or.inr (Or.inr (Or.inl ⟨m2, by omega⟩))
            · subst e
              have m3 : f_mode = 3 := by
                rcases gM.1 with z | z | z | z
                · exact absurd z hm
                · exact absurd z h1
                · exact absurd z m2
                · exact z
              exact Or.inr (Or.inr (Or.inr ⟨m3, by omega⟩))
          · rintro (z | z | ⟨z, w⟩ | ⟨z, w⟩) _
            · exact absurd z hcn
            · exact absurd z h1
            · rcases hs with ⟨m2, e⟩ | ⟨m2, e⟩
              · subst e; omega
              · exact absurd z m2
            · rcases hs with ⟨m2, e⟩ | ⟨m2, e⟩
              · rw [z] at m2; exact absurd m2 (by decide)
              · subst e; omega
    · exact br_f hx (br_f hm (br_f hx ⟨rfl, fd_mk hI⟩))
end
