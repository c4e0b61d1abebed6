section
/-! pure rows to paste: stores, nI and lN arithmetic, masks, shifts, narrowing, branches by naturals (pk_le, pk_lt, pk_eq), loops (lp1 .. lp16: the measure of the state; rp1 ..: recursion), negatives. Take what you need -/
theorem pk_us {f : Nat → Int32} {k : Nat} {x : Int32} : upd f k x k = x := if_pos rfl
theorem pk_un {f : Nat → Int32} {k j : Nat} {x : Int32} (h : j ≠ k) : upd f k x j = f j := if_neg h
theorem pk_uLs {f : Nat → Int64} {k : Nat} {x : Int64} : vp_updL f k x k = x := if_pos rfl
theorem pk_uLn {f : Nat → Int64} {k j : Nat} {x : Int64} (h : j ≠ k) : vp_updL f k x j = f j := if_neg h
theorem pk_sub {a b : Nat} (h : b ≤ a) : nI a - nI b = nI (a - b) := by
  obtain ⟨c, rfl⟩ : ∃ c, a = c + b := ⟨a - b, by omega⟩
  rw [← nI_add, Int32.add_sub_cancel, Nat.add_sub_cancel]
theorem pk_m1 (n : Nat) : nI (n + 1) + (-1) = nI n := by
  rw [← nI_1, Int32.add_assoc, show (1 : Int32) + (-1) = 0 from rfl, Int32.add_zero]
theorem pk_mul (a b : Nat) : nI a * nI b = nI (a * b) := (Int32.ofNat_mul a b).symm
theorem pk_div {a d : Nat} (ha : a < 2 ^ 31) (h0 : 0 < d) (hd : d < 2 ^ 31) : nI a / nI d = nI (a / d) := by
  apply Int32.toInt_inj.mp
  rw [lg_idiv_nonneg (by rw [nI_toInt ha]; omega) (by rw [nI_toInt hd]; omega), nI_toInt ha, nI_toInt hd, nI_toInt (Nat.lt_of_le_of_lt (Nat.div_le_self a d) ha)]
  first | rfl | exact (Int.natCast_ediv _ _).symm
theorem pk_rem {a d : Nat} (ha : a < 2 ^ 31) (h0 : 0 < d) (hd : d < 2 ^ 31) : nI a - nI a / nI d * nI d = nI (a % d) := by
  rw [pk_div ha h0 hd, pk_mul, pk_sub (Nat.div_mul_le_self a d)]
  exact congrArg nI (by have := Nat.div_add_mod' a d; omega)
theorem pk_sub_toInt {a b : Nat} (ha : a < 2 ^ 30) (hb : b < 2 ^ 30) : (nI a - nI b).toInt = (a : Int) - b := by
  rw [Int32.toInt_sub, nI_toInt (by omega), nI_toInt (by omega)]
  exact Int.bmod_eq_of_le (by omega) (by omega)
theorem pk_sneg {a b : Nat} (hb : b < 2 ^ 30) (h : a < b) : nI a - nI b < 0 := by
  rw [Int32.lt_iff_toInt_lt, pk_sub_toInt (by omega) hb, show (0 : Int32).toInt = 0 from by decide]
  omega
theorem pk_ix (x : Int32) {n : Nat} (hn : n < 2 ^ 31) : x < 0 ∨ nI n ≤ x ∨ ∃ j : Nat, j < n ∧ x = nI j := by
  by_cases h : x < 0
  · exact Or.inl h
  · obtain ⟨j, hj, rfl⟩ := nI_of h
    by_cases h2 : j < n
    · exact Or.inr (Or.inr ⟨j, h2, rfl⟩)
    · exact Or.inr (Or.inl (nI_le (by omega) hj))
theorem pk_le {x y : Int32} {A B : Prop} (a b : Nat) (f : a ≤ b → A) (g : b < a → B) (hx : x = nI a := by rfl) (hy : y = nI b := by rfl) (ha : a < 2 ^ 31 := by omega) (hb : b < 2 ^ 31 := by omega) : (x ≤ y → A) ∧ (¬ x ≤ y → B) := by
  subst hx hy
  rw [nI_leI ha hb]
  exact ⟨f, fun z => g (by omega)⟩
theorem pk_lt {x y : Int32} {A B : Prop} (a b : Nat) (f : a < b → A) (g : b ≤ a → B) (hx : x = nI a := by rfl) (hy : y = nI b := by rfl) (ha : a < 2 ^ 31 := by omega) (hb : b < 2 ^ 31 := by omega) : (x < y → A) ∧ (¬ x < y → B) := by
  subst hx hy
  rw [nI_ltI ha hb]
  exact ⟨f, fun z => g (by omega)⟩
theorem pk_eq {x y : Int32} {A B : Prop} (a b : Nat) (f : a = b → A) (g : a ≠ b → B) (hx : x = nI a := by rfl) (hy : y = nI b := by rfl) (ha : a < 2 ^ 31 := by omega) (hb : b < 2 ^ 31 := by omega) : (x = y → A) ∧ (¬ x = y → B) := by
  subst hx hy
  rw [nI_eq ha hb]
  exact ⟨f, g⟩
theorem pk_in {x : Int32} (n N : Nat) (h : n < N) (hx : x = nI n := by rfl) (hN : N < 2 ^ 31 := by omega) : vp_in x N := by
  subst hx
  exact vp_in_nI h hN
theorem pk_cl {x : Int32} (n : Nat) (hx : x = nI n := by rfl) (h : n < 2 ^ 31 := by omega) : x.toNatClampNeg = n := by
  subst hx
  exact nI_clamp h
theorem pk_tn {n : Nat} (h : n < 2 ^ 32) : (nI n).toBitVec.toNat = n := Nat.mod_eq_of_lt h
theorem pk_and (x : Int32) {m : Int32} (k : Nat) (hm : m.toBitVec.toNat = 2 ^ k - 1) : x &&& m = nI (x.toBitVec.toNat % 2 ^ k) := by
  apply Int32.toBitVec_inj.mp
  apply BitVec.eq_of_toNat_eq
  rw [Int32.toBitVec_and, BitVec.toNat_and, hm, Nat.and_two_pow_sub_one_eq_mod]
  show _ = (BitVec.ofNat 32 _).toNat
  rw [BitVec.toNat_ofNat]
  exact (Nat.mod_eq_of_lt (Nat.lt_of_le_of_lt (Nat.mod_le _ _) x.toBitVec.isLt)).symm
theorem pk_andN {n : Nat} (h : n < 2 ^ 32) {m : Int32} (k : Nat) (hm : m.toBitVec.toNat = 2 ^ k - 1) : nI n &&& m = nI (n % 2 ^ k) := by
  rw [pk_and _ k hm, pk_tn h]
theorem pk_andE (x : Int32) {m : Int32} (k : Nat) (hm : m.toBitVec.toNat = 2 ^ k - 1) : ∃ j : Nat, j < 2 ^ k ∧ x &&& m = nI j := ⟨_, Nat.mod_lt _ (Nat.two_pow_pos k), pk_and x k hm⟩
theorem pk_andIn (x : Int32) {m : Int32} (k : Nat) (hm : m.toBitVec.toNat = 2 ^ k - 1) (hk : k ≤ 30) : vp_in (x &&& m) (2 ^ k) := by
  obtain ⟨j, hj, e⟩ := pk_andE x k hm
  rw [e]
  exact vp_in_nI hj (Nat.lt_of_le_of_lt (Nat.pow_le_pow_right (by decide) hk) (by decide))
theorem pk_shl (a s : Int32) (k : Nat) (hs : (s.toBitVec.smod 32).toNat = k) : (a <<< s).toBitVec.toNat = a.toBitVec.toNat * 2 ^ k % 2 ^ 32 := by
  show (a.toBitVec <<< (s.toBitVec.smod 32).toNat).toNat = _
  rw [hs, BitVec.toNat_shiftLeft, Nat.shiftLeft_eq]
theorem pk_shlN {n : Nat} (s : Int32) (k : Nat) (hs : (s.toBitVec.smod 32).toNat = k) (h : n * 2 ^ k < 2 ^ 32) : nI n <<< s = nI (n * 2 ^ k) := by
  apply Int32.toBitVec_inj.mp
  apply BitVec.eq_of_toNat_eq
  have hn : n < 2 ^ 32 := Nat.lt_of_le_of_lt (Nat.le_mul_of_pos_right n (Nat.two_pow_pos k)) h
  rw [pk_shl _ _ k hs, pk_tn hn, pk_tn h, Nat.mod_eq_of_lt h]
theorem pk_shr (a s : Int32) (k : Nat) (hs : (s.toBitVec.smod 32).toNat = k) : (a >>> s).toInt = a.toInt >>> k := by
  show (a.toBitVec.sshiftRight (s.toBitVec.smod 32).toNat).toInt = _
  rw [hs, BitVec.toInt_sshiftRight]
  rfl
theorem pk_shrN {n : Nat} (h : n < 2 ^ 31) (s : Int32) (k : Nat) (hs : (s.toBitVec.smod 32).toNat = k) : nI n >>> s = nI (n / 2 ^ k) := by
  apply Int32.toInt_inj.mp
  have h2 : n / 2 ^ k ≤ n := Nat.div_le_self _ _
  rw [pk_shr _ _ k hs, nI_toInt h, nI_toInt (by omega), Int.shiftRight_eq_div_pow]
  rfl
theorem pk_ushr (x s : Int32) (k : Nat) (hs : ((s.toUInt32 &&& Int32.toUInt32 31).toBitVec % 32).toNat = k) : (x.toUInt32 >>> (s.toUInt32 &&& Int32.toUInt32 31)).toInt32.toBitVec.toNat = x.toBitVec.toNat / 2 ^ k := by
  have e : (x.toUInt32 >>> (s.toUInt32 &&& Int32.toUInt32 31)).toInt32.toBitVec = x.toBitVec >>> k := by
    rw [← hs]
    exact UInt32.toBitVec_shiftRight _ _
  rw [e, BitVec.toNat_ushiftRight, Nat.shiftRight_eq_div_pow]
theorem pk_ushrN {n : Nat} (hn : n < 2 ^ 32) (s : Int32) (k : Nat) (hs : ((s.toUInt32 &&& Int32.toUInt32 31).toBitVec % 32).toNat = k) : ((nI n).toUInt32 >>> (s.toUInt32 &&& Int32.toUInt32 31)).toInt32 = nI (n / 2 ^ k) := by
  apply Int32.toBitVec_inj.mp
  apply BitVec.eq_of_toNat_eq
  rw [pk_ushr _ s k hs, pk_tn hn, pk_tn (Nat.lt_of_le_of_lt (Nat.div_le_self _ _) hn)]
theorem pk_loop {σ : Type} (W : Nat → Nat → σ → Prop) (I : Nat → σ → Prop) (e i0 : Nat) (s : σ) (hi : i0 ≤ e) (h0 : I i0 s) (hx : ∀ n s, I e s → W (n + 1) e s)
    (hs : ∀ n i s, i < e → I i s → (∀ s', I (i + 1) s' → W n (i + 1) s') → W (n + 1) i s) : ∃ n, W n i0 s :=
  ⟨e + 1, loop_i W I e hx hs (e + 1) i0 s hi (by omega) h0⟩
theorem pk_loopD {σ : Type} (W : Nat → Nat → σ → Prop) (I : Nat → σ → Prop) (hx : ∀ n s, I 0 s → W (n + 1) 0 s)
    (hs : ∀ n i s, I (i + 1) s → (∀ s', I i s' → W n i s') → W (n + 1) (i + 1) s) : ∀ (e : Nat) (s : σ), I e s → W (e + 1) e s := by
  intro e
  induction e with
  | zero => exact fun s h => hx 0 s h
  | succ e ih => exact fun s h => hs (e + 1) e s h (fun s' h' => ih s' h')
theorem pk_least (P : Nat → Prop) (h : ∃ k, P k) : ∃ k, P k ∧ ∀ j, j < k → ¬ P j := by
  obtain ⟨k, hk⟩ := h
  induction k using Nat.strongRecOn with
  | ind k ih =>
    by_cases e : ∃ j, j < k ∧ P j
    · obtain ⟨j, hj, pj⟩ := e
      exact ih j hj pj
    · exact ⟨k, hk, fun j hj pj => e ⟨j, hj, pj⟩⟩
theorem ek_if {c d A B : Prop} (e : c ↔ d) (f : d → A) (g : ¬ d → B) : (c → A) ∧ (¬ c → B) :=
  ⟨fun z => f (e.mp z), fun z => g (fun y => z (e.mpr y))⟩
theorem ek_v {α : Sort _} {P : α → Prop} {a b : α} (e : a = b) (h : P b) : P a := e ▸ h
end
section
/-! rows on bits, shifts and unsigned numbers, to paste: each family out of a closed proof of our own, whole with what it rests on; each by itself clean at Lean in its own claim (generation 39, form 5). Take a family whole -/
/-! ===== Int32 by its bits: bt x i ===== -/
def bt (x : Int32) (i : Nat) : Bool := x.toBitVec.getLsbD i
theorem b_ext {x y : Int32} (h : ∀ i, i < 32 → bt x i = bt y i) : x = y := Int32.toBitVec_inj.mp (BitVec.eq_of_getLsbD_eq (fun i hi => h i hi))
theorem b_or (x y : Int32) (i : Nat) : bt (x ||| y) i = (bt x i || bt y i) := by unfold bt; rw [Int32.toBitVec_or, BitVec.getLsbD_or]
theorem b_and (x y : Int32) (i : Nat) : bt (x &&& y) i = (bt x i && bt y i) := by unfold bt; rw [Int32.toBitVec_and, BitVec.getLsbD_and]
theorem b_xor (x y : Int32) (i : Nat) : bt (x ^^^ y) i = (bt x i ^^ bt y i) := by unfold bt; rw [Int32.toBitVec_xor, BitVec.getLsbD_xor]
theorem b_big {x : Int32} {i : Nat} (h : 32 ≤ i) : bt x i = false := BitVec.getLsbD_of_ge _ _ h
theorem b_255 (i : Nat) : bt 255 i = decide (i < 8) := by
  rcases Nat.lt_or_ge i 32 with h | h
  · exact (by decide +kernel : ∀ i, i < 32 → bt 255 i = decide (i < 8)) i h
  · rw [b_big h, decide_eq_false (by omega)]
theorem b_65535 (i : Nat) : bt 65535 i = decide (i < 16) := by
  rcases Nat.lt_or_ge i 32 with h | h
  · exact (by decide +kernel : ∀ i, i < 32 → bt 65535 i = decide (i < 16)) i h
  · rw [b_big h, decide_eq_false (by omega)]
theorem b_m1 : ∀ i, i < 32 → bt (-1) i = true := by decide +kernel
theorem b_0 (i : Nat) : bt 0 i = false := BitVec.getLsbD_zero
theorem s_l : ∀ n, n < 32 → ((nI n &&& 31).toBitVec.smod 32).toNat = n := by decide +kernel
theorem s_u : ∀ n, n < 32 → (((nI n).toUInt32 &&& Int32.toUInt32 31).toBitVec % 32).toNat = n := by decide +kernel
theorem b_shl (n : Nat) (hn : n < 32) (x : Int32) {i : Nat} (hi : i < 32) : bt (x <<< (nI n &&& 31)) i = (decide (n ≤ i) && bt x (i - n)) := by
  unfold bt
  rw [Int32.toBitVec_shiftLeft]
  show (x.toBitVec <<< ((nI n &&& 31).toBitVec.smod 32).toNat).getLsbD i = _
  rw [s_l n hn, BitVec.getLsbD_shiftLeft]
  rcases Nat.lt_or_ge i n with h | h
  · simp [h, Nat.not_le.mpr h]
  · simp [hi, h, Nat.not_lt.mpr h]
theorem b_ushr (n : Nat) (hn : n < 32) (x : Int32) (i : Nat) : bt ((x.toUInt32 >>> ((nI n).toUInt32 &&& Int32.toUInt32 31)).toInt32) i = bt x (n + i) := by
  show (x.toUInt32 >>> ((nI n).toUInt32 &&& Int32.toUInt32 31)).toBitVec.getLsbD i = x.toUInt32.toBitVec.getLsbD (n + i)
  rw [UInt32.toBitVec_shiftRight]
  show (x.toUInt32.toBitVec >>> (((nI n).toUInt32 &&& Int32.toUInt32 31).toBitVec % 32).toNat).getLsbD i = _
  rw [s_u n hn, BitVec.getLsbD_ushiftRight]
theorem b_sshr (n : Nat) (hn : n < 32) (x : Int32) {i : Nat} (hi : i < 32) : bt (x >>> (nI n &&& 31)) i = if n + i < 32 then bt x (n + i) else bt x 31 := by
  unfold bt
  rw [Int32.toBitVec_shiftRight]
  show (x.toBitVec.sshiftRight ((nI n &&& 31).toBitVec.smod 32).toNat).getLsbD i = _
  rw [s_l n hn, BitVec.getLsbD_sshiftRight, BitVec.msb_eq_getLsbD_last]
  simp [hi]
theorem b_shl8 (x : Int32) {i : Nat} (hi : i < 32) : bt (x <<< ((8 : Int32) &&& 31)) i = (decide (8 ≤ i) && bt x (i - 8)) := b_shl 8 (by omega) x hi
theorem b_shl16 (x : Int32) {i : Nat} (hi : i < 32) : bt (x <<< ((16 : Int32) &&& 31)) i = (decide (16 ≤ i) && bt x (i - 16)) := b_shl 16 (by omega) x hi
theorem b_shl24 (x : Int32) {i : Nat} (hi : i < 32) : bt (x <<< ((24 : Int32) &&& 31)) i = (decide (24 ≤ i) && bt x (i - 24)) := b_shl 24 (by omega) x hi
theorem b_sshr8 (x : Int32) {i : Nat} (hi : i < 32) : bt (x >>> ((8 : Int32) &&& 31)) i = if 8 + i < 32 then bt x (8 + i) else bt x 31 := b_sshr 8 (by omega) x hi
theorem nf_sh : ∀ l, l < 32 → ((1 : Int32) <<< (nI l &&& 31)).toBitVec = BitVec.twoPow 32 l := by decide +kernel
end
section
/-! the configuration: (good, issuer name, issuer key, subject name, subject key, settings, anchors); a state: (last, names, may come, policies) -/
abbrev tp_Cf : Type := (Nat → Bool) × (Nat → Int32) × (Nat → Int32) × (Nat → Int32) × (Nat → Int32) × (Nat → Int32) × (Nat → Int32)
abbrev tp_S : Type := Option Nat × Int32 × Nat × Int32
def tp_sub (a b : Int32) : Prop := a &&& (b ^^^ (-1)) = 0
def tp_opn (sN : Nat → Int32) (m : Int32) (c : Nat) : Prop := (m >>> (sN c &&& 31)) &&& 1 = 1
def tp_fl (g : tp_Cf) : Option Nat → Nat → Bool
  | none, c => decide (g.2.2.2.2.2.2 0 = (10 * g.2.1 c) + g.2.2.1 c ∨ g.2.2.2.2.2.2 1 = (10 * g.2.1 c) + g.2.2.1 c ∨ g.2.2.2.2.2.2 2 = (10 * g.2.1 c) + g.2.2.1 c)
  | some b, c => decide (g.2.1 c = g.2.2.2.1 b ∧ g.2.2.1 c = g.2.2.2.2.1 b)
def tp_lim (se : Nat → Int32) (c : Nat) : Nat := (se (5 * c + 1)).toNatClampNeg
def tp_Ok (g : tp_Cf) (s : tp_S) (c : Nat) : Prop :=
  g.1 c = true ∧ tp_fl g s.1 c = true ∧ ¬ g.2.2.2.2.2.1 (5 * c) = 0 ∧ ¬ (s.2.2.2 &&& g.2.2.2.2.2.1 (5 * c + 4)) = 0 ∧ (¬ g.2.1 c = g.2.2.2.1 c → ¬ s.2.2.1 = 0 ∧ tp_opn g.2.2.2.1 s.2.1 c)
def tp_cg (g : tp_Cf) (s : tp_S) (c : Nat) : Nat := if g.2.1 c = g.2.2.2.1 c ∨ s.2.2.1 = 4 then s.2.2.1 else s.2.2.1 - 1
def tp_nx (g : tp_Cf) (s : tp_S) (c : Nat) : tp_S :=
  (some c, (s.2.1 &&& g.2.2.2.2.2.1 (5 * c + 2)) &&& (g.2.2.2.2.2.1 (5 * c + 3) ^^^ (-1)), (if tp_cg g s c ≤ tp_lim g.2.2.2.2.2.1 c then tp_cg g s c else tp_lim g.2.2.2.2.2.1 c), s.2.2.2 &&& g.2.2.2.2.2.1 (5 * c + 4))
def tp_fin (g : tp_Cf) (s : tp_S) (c : Nat) : Prop :=
  g.1 c = true ∧ tp_fl g s.1 c = true ∧ tp_opn g.2.2.2.1 s.2.1 c ∧ ¬ (s.2.2.2 &&& g.2.2.2.2.2.1 (5 * c + 4)) = 0
def tp_finb (g : tp_Cf) (b : Nat) (s : tp_S) (c : Nat) : Prop := tp_fin g s c ∧ bt (s.2.2.2 &&& g.2.2.2.2.2.1 (5 * c + 4)) b = true
def tp_wle (s s' : tp_S) : Prop := tp_sub s.2.1 s'.2.1 ∧ tp_sub s.2.2.2 s'.2.2.2 ∧ s.2.2.1 ≤ s'.2.2.1
def tp_dom (s s' : tp_S) : Prop := s.1 = s'.1 ∧ tp_wle s s'
def tp_s0 : tp_S := (none, 255, 4, 15)
/-! bits -/
theorem tp_b1 : ∀ i, i < 32 → bt 1 i = decide (i = 0) := by decide +kernel
theorem tp_and1 (y : Int32) : y &&& 1 = 1 ↔ bt y 0 = true := by
  constructor
  · intro h
    have e : bt (y &&& 1) 0 = bt 1 0 := by rw [h]
    rw [b_and, tp_b1 0 (by omega)] at e
    revert e
    cases bt y 0 <;> decide
  · intro h
    apply b_ext
    intro i hi
    rw [b_and, tp_b1 i hi]
    by_cases h0 : i = 0
    · subst h0
      rw [h]
      decide
    · simp [h0]
theorem tp_has {m : Int32} {c : Nat} (hc : c < 32) : (m >>> (nI c &&& 31)) &&& 1 = 1 ↔ bt m c = true := by
  rw [tp_and1, b_sshr c hc m (by omega : 0 < 32), Nat.add_zero, if_pos hc]
theorem tp_b1c {c : Nat} (hc : c < 32) : ∀ i, i < 32 → bt ((1 : Int32) <<< (nI c &&& 31)) i = decide (i = c) := by
  intro i hi
  rw [b_shl c hc 1 hi, tp_b1 (i - c) (by omega)]
  by_cases h : i = c
  · subst h
    simp
  · by_cases h2 : c ≤ i
    · have : ¬ i - c = 0 := by omega
      simp [h, this]
    · simp [h, h2]
theorem tp_sub_bt {a b : Int32} : tp_sub a b ↔ ∀ i, i < 32 → bt a i = true → bt b i = true := by
  unfold tp_sub
  constructor
  · intro h i hi ha
    have e : bt (a &&& (b ^^^ (-1))) i = bt 0 i := by rw [h]
    rw [b_and, b_xor, b_m1 i hi, b_0, ha] at e
    revert e
    cases bt b i <;> decide
  · intro h
    apply b_ext
    intro i hi
    have t := h i hi
    rw [b_and, b_xor, b_m1 i hi, b_0]
    revert t
    cases bt a i <;> cases bt b i <;> decide
theorem tp_sub_refl (a : Int32) : tp_sub a a := tp_sub_bt.mpr (fun _ _ h => h)
theorem tp_sub_trans {a b c : Int32} (h : tp_sub a b) (k : tp_sub b c) : tp_sub a c :=
  tp_sub_bt.mpr (fun i hi z => tp_sub_bt.mp k i hi (tp_sub_bt.mp h i hi z))
theorem tp_sub_and {a b : Int32} (h : tp_sub a b) (p : Int32) : tp_sub (a &&& p) (b &&& p) := by
  rw [tp_sub_bt] at h ⊢
  intro i hi z
  rw [b_and, Bool.and_eq_true] at z ⊢
  exact ⟨h i hi z.1, z.2⟩
theorem tp_sub_l (a p : Int32) : tp_sub (a &&& p) a := by
  rw [tp_sub_bt]
  intro i hi z
  rw [b_and, Bool.and_eq_true] at z
  exact z.1
theorem tp_sub_ne {a b : Int32} (h : tp_sub a b) (z : ¬ a = 0) : ¬ b = 0 := by
  intro e
  apply z
  apply b_ext
  intro i hi
  rw [b_0]
  have := tp_sub_bt.mp h i hi
  rw [e, b_0] at this
  revert this
  cases bt a i <;> decide
theorem tp_sub_eq {a b : Int32} (h : tp_sub a b) : a &&& b = a := by
  apply b_ext
  intro i hi
  have t := tp_sub_bt.mp h i hi
  rw [b_and]
  revert t
  cases bt a i <;> cases bt b i <;> decide
theorem tp_sub_opn {a b : Int32} (h : tp_sub a b) {sN : Nat → Int32} {c : Nat} (o : tp_opn sN a c) : tp_opn sN b c := by
  unfold tp_opn at o ⊢
  rw [tp_and1] at o ⊢
  rw [← tp_sub_eq h, Int32.shiftRight_and, b_and, Bool.and_eq_true] at o
  exact o.2
/-! the order -/
theorem tp_wle_refl (s : tp_S) : tp_wle s s := ⟨tp_sub_refl _, tp_sub_refl _, Nat.le_refl _⟩
theorem tp_wle_trans {a b c : tp_S} (h : tp_wle a b) (k : tp_wle b c) : tp_wle a c :=
  ⟨tp_sub_trans h.1 k.1, tp_sub_trans h.2.1 k.2.1, Nat.le_trans h.2.2 k.2.2⟩
theorem tp_dom_refl (s : tp_S) : tp_dom s s := ⟨rfl, tp_wle_refl s⟩
theorem tp_dom_trans {a b c : tp_S} (h : tp_dom a b) (k : tp_dom b c) : tp_dom a c := ⟨h.1.trans k.1, tp_wle_trans h.2 k.2⟩
theorem tp_cg_le (g : tp_Cf) (s : tp_S) (c : Nat) : tp_cg g s c ≤ s.2.2.1 := by
  unfold tp_cg
  split <;> omega
theorem tp_dec (g : tp_Cf) (s : tp_S) (c : Nat) : tp_wle (tp_nx g s c) s := by
  refine ⟨tp_sub_trans (tp_sub_l _ _) (tp_sub_l _ _), tp_sub_l _ _, ?_⟩
  show (if tp_cg g s c ≤ tp_lim g.2.2.2.2.2.1 c then tp_cg g s c else tp_lim g.2.2.2.2.2.1 c) ≤ s.2.2.1
  have := tp_cg_le g s c
  split <;> omega
theorem tp_cg_mon (g : tp_Cf) {s s' : tp_S} (h : s.2.2.1 ≤ s'.2.2.1) (c : Nat) : tp_cg g s c ≤ tp_cg g s' c := by
  unfold tp_cg
  by_cases e : g.2.1 c = g.2.2.2.1 c
  · rw [if_pos (Or.inl e), if_pos (Or.inl e)]
    exact h
  · by_cases e1 : s.2.2.1 = 4
    · rw [if_pos (Or.inr e1)]
      split <;> omega
    · rw [if_neg (fun z => z.elim e e1)]
      split <;> omega
theorem tp_nx_mon (g : tp_Cf) {s s' : tp_S} (h : tp_wle s s') (c : Nat) : tp_wle (tp_nx g s c) (tp_nx g s' c) := by
  refine ⟨tp_sub_and (tp_sub_and h.1 _) _, tp_sub_and h.2.1 _, ?_⟩
  show (if tp_cg g s c ≤ tp_lim g.2.2.2.2.2.1 c then tp_cg g s c else tp_lim g.2.2.2.2.2.1 c) ≤ (if tp_cg g s' c ≤ tp_lim g.2.2.2.2.2.1 c then tp_cg g s' c else tp_lim g.2.2.2.2.2.1 c)
  have := tp_cg_mon g h.2.2 c
  split <;> split <;> omega
theorem tp_Ok_fl {g : tp_Cf} {s : tp_S} {c : Nat} (h : tp_Ok g s c) : tp_fl g s.1 c = true := h.2.1
theorem tp_Ok_gd {g : tp_Cf} {s : tp_S} {c : Nat} (h : tp_Ok g s c) : g.1 c = true := h.1
theorem tp_Ok_mon {g : tp_Cf} {s s' : tp_S} {c : Nat} (h : tp_wle s s') (f : tp_fl g s'.1 c = true) (k : tp_Ok g s c) : tp_Ok g s' c := by
  refine ⟨k.1, f, k.2.2.1, tp_sub_ne (tp_sub_and h.2.1 _) k.2.2.2.1, fun e => ?_⟩
  obtain ⟨a, b⟩ := k.2.2.2.2 e
  have := h.2.2
  exact ⟨by omega, tp_sub_opn h.1 b⟩
theorem tp_fin_mon {g : tp_Cf} {s s' : tp_S} {c : Nat} (h : tp_wle s s') (f : tp_fl g s'.1 c = true) (k : tp_fin g s c) : tp_fin g s' c :=
  ⟨k.1, f, tp_sub_opn h.1 k.2.2.1, tp_sub_ne (tp_sub_and h.2.1 _) k.2.2.2⟩
theorem tp_finb_mon {g : tp_Cf} {b : Nat} {s s' : tp_S} {c : Nat} (h : tp_wle s s') (f : tp_fl g s'.1 c = true) (k : tp_finb g b s c) : tp_finb g b s' c := by
  refine ⟨tp_fin_mon h f k.1, ?_⟩
  rcases Nat.lt_or_ge b 32 with hb | hb
  · exact tp_sub_bt.mp (tp_sub_and h.2.1 _) b hb k.2
  · have := k.2
    rw [b_big hb] at this
    exact absurd this (by decide)
/-- what tp_simple and the search need of a way to end -/
def tp_Way (g : tp_Cf) (F : tp_S → Nat → Prop) : Prop :=
  (∀ s s' c, tp_wle s s' → tp_fl g s'.1 c = true → F s c → F s' c) ∧ (∀ s c, F s c → tp_fl g s.1 c = true)
theorem tp_way_fin (g : tp_Cf) : tp_Way g (tp_fin g) := ⟨fun _ _ _ h f k => tp_fin_mon h f k, fun _ _ h => h.2.1⟩
theorem tp_way_finb (g : tp_Cf) (b : Nat) : tp_Way g (tp_finb g b) := ⟨fun _ _ _ h f k => tp_finb_mon h f k, fun _ _ h => h.1.2.1⟩
end
section
/-! paths -/
def tp_run (g : tp_Cf) (s : tp_S) (P : List Nat) : tp_S := P.foldl (tp_nx g) s
def tp_ok (g : tp_Cf) : tp_S → List Nat → Prop
  | _, [] => True
  | s, c :: P => tp_Ok g s c ∧ tp_ok g (tp_nx g s c) P
theorem tp_run_nil (g : tp_Cf) (s : tp_S) : tp_run g s [] = s := rfl
theorem tp_run_cons (g : tp_Cf) (s : tp_S) (c : Nat) (P : List Nat) : tp_run g s (c :: P) = tp_run g (tp_nx g s c) P := rfl
theorem tp_run_app (g : tp_Cf) (s : tp_S) (P R : List Nat) : tp_run g s (P ++ R) = tp_run g (tp_run g s P) R := List.foldl_append
theorem tp_run_snoc (g : tp_Cf) (s : tp_S) (P : List Nat) (c : Nat) : tp_run g s (P ++ [c]) = tp_nx g (tp_run g s P) c := tp_run_app g s P [c]
theorem tp_ok_app (g : tp_Cf) : ∀ (P : List Nat) (s : tp_S) (R : List Nat), tp_ok g s (P ++ R) ↔ tp_ok g s P ∧ tp_ok g (tp_run g s P) R := by
  intro P
  induction P with
  | nil => intro s R; exact ⟨fun h => ⟨trivial, h⟩, fun h => h.2⟩
  | cons c P ih =>
    intro s R
    constructor
    · intro h
      obtain ⟨a, b⟩ := (ih (tp_nx g s c) R).mp h.2
      exact ⟨⟨h.1, a⟩, b⟩
    · intro h
      exact ⟨h.1.1, (ih (tp_nx g s c) R).mpr ⟨h.1.2, h.2⟩⟩
theorem tp_ok_snoc (g : tp_Cf) (s : tp_S) (P : List Nat) (c : Nat) : tp_ok g s (P ++ [c]) ↔ tp_ok g s P ∧ tp_Ok g (tp_run g s P) c := by
  rw [tp_ok_app]
  exact ⟨fun h => ⟨h.1, h.2.1⟩, fun h => ⟨h.1, h.2, trivial⟩⟩
theorem tp_run_wle (g : tp_Cf) : ∀ (P : List Nat) (s : tp_S), tp_wle (tp_run g s P) s := by
  intro P
  induction P with
  | nil => intro s; exact tp_wle_refl s
  | cons c P ih => intro s; exact tp_wle_trans (ih (tp_nx g s c)) (tp_dec g s c)
theorem tp_ok_dom (g : tp_Cf) : ∀ (P : List Nat) (s s' : tp_S), tp_dom s s' → tp_ok g s P → tp_ok g s' P ∧ tp_dom (tp_run g s P) (tp_run g s' P) := by
  intro P
  induction P with
  | nil => intro s s' h _; exact ⟨trivial, h⟩
  | cons c P ih =>
    intro s s' h k
    have f : tp_fl g s'.1 c = true := by rw [← h.1]; exact tp_Ok_fl k.1
    obtain ⟨a, b⟩ := ih (tp_nx g s c) (tp_nx g s' c) ⟨rfl, tp_nx_mon g h.2 c⟩ k.2
    exact ⟨⟨tp_Ok_mon h.2 f k.1, a⟩, b⟩
theorem tp_ok_gd {g : tp_Cf} : ∀ (P : List Nat) (s : tp_S), tp_ok g s P → ∀ x, x ∈ P → g.1 x = true := by
  intro P
  induction P with
  | nil => intro s _ x hx; exact absurd hx List.not_mem_nil
  | cons c P ih =>
    intro s h x hx
    rcases List.mem_cons.mp hx with e | e
    · rw [e]; exact h.1.1
    · exact ih _ h.2 x e
/-! cutting out a cycle -/
theorem tp_dup : ∀ P : List Nat, ¬ P.Nodup → ∃ A a B C, P = A ++ a :: (B ++ a :: C) := by
  intro P
  induction P with
  | nil => intro h; exact absurd List.nodup_nil h
  | cons x P ih =>
    intro h
    by_cases hx : x ∈ P
    · obtain ⟨s, t, e⟩ := List.append_of_mem hx
      exact ⟨[], x, s, t, by rw [e]; rfl⟩
    · have hP : ¬ P.Nodup := fun z => h (List.nodup_cons.mpr ⟨hx, z⟩)
      obtain ⟨A, a, B, C, e⟩ := ih hP
      exact ⟨x :: A, a, B, C, by rw [e]; rfl⟩
theorem tp_nodup_snoc {P : List Nat} {c : Nat} : (P ++ [c]).Nodup ↔ P.Nodup ∧ c ∉ P := by
  rw [List.nodup_append]
  constructor
  · intro h
    exact ⟨h.1, fun z => h.2.2 c z c (List.mem_singleton.mpr rfl) rfl⟩
  · intro h
    refine ⟨h.1, List.nodup_cons.mpr ⟨List.not_mem_nil, List.nodup_nil⟩, fun a ha b hb e => ?_⟩
    rw [List.mem_singleton] at hb
    rw [e, hb] at ha
    exact h.2 ha
theorem tp_short {g : tp_Cf} {F : tp_S → Nat → Prop} (hF : tp_Way g F) {P : List Nat} {c : Nat} (o : tp_ok g tp_s0 P) (f : F (tp_run g tp_s0 P) c) (nd : ¬ (P ++ [c]).Nodup) :
    ∃ P' : List Nat, P'.length < P.length ∧ (∀ x, x ∈ P' → x ∈ P) ∧ tp_ok g tp_s0 P' ∧ F (tp_run g tp_s0 P') c := by
  by_cases hc : c ∈ P
  · obtain ⟨A, B, e⟩ := List.append_of_mem hc
    subst e
    rw [tp_ok_app] at o
    rw [tp_run_app] at f
    refine ⟨A, by simp, fun x hx => List.mem_append_left _ hx, o.1, hF.1 _ _ c ?_ o.2.1.2.1 f⟩
    exact tp_run_wle g _ _
  · have hP : ¬ P.Nodup := fun z => nd (tp_nodup_snoc.mpr ⟨z, hc⟩)
    obtain ⟨A, a, B, C, e⟩ := tp_dup P hP
    subst e
    rw [tp_ok_app] at o
    rw [tp_run_app, tp_run_cons, tp_run_app, tp_run_cons] at f
    have o2 := (tp_ok_app g B (tp_nx g (tp_run g tp_s0 A) a) (a :: C)).mp o.2.2
    have d : tp_dom (tp_nx g (tp_run g (tp_nx g (tp_run g tp_s0 A) a) B) a) (tp_nx g (tp_run g tp_s0 A) a) :=
      ⟨rfl, tp_wle_trans (tp_dec g _ a) (tp_run_wle g B _)⟩
    obtain ⟨k1, k2⟩ := tp_ok_dom g C _ _ d o2.2.2
    refine ⟨A ++ a :: C, by simp; omega, ?_, (tp_ok_app g A _ _).mpr ⟨o.1, o.2.1, k1⟩, ?_⟩
    · intro x hx
      rcases List.mem_append.mp hx with z | z
      · exact List.mem_append_left _ z
      · rcases List.mem_cons.mp z with z | z
        · exact List.mem_append_right _ (List.mem_cons.mpr (Or.inl z))
        · exact List.mem_append_right _ (List.mem_cons.mpr (Or.inr (List.mem_append_right _ (List.mem_cons.mpr (Or.inr z)))))
    · rw [tp_run_app, tp_run_cons]
      refine hF.1 _ _ c k2.2 ?_ f
      rw [← k2.1]
      exact hF.2 _ _ f
/-! the order of paths: shorter first, then by their numbers, as a number -/
def tp_sl (P : List Nat) : Nat := P.foldl (fun a c => 16 * a + c + 1) 0
theorem tp_sl_nil : tp_sl [] = 0 := rfl
theorem tp_sl_snoc (P : List Nat) (c : Nat) : tp_sl (P ++ [c]) = 16 * tp_sl P + c + 1 := by
  unfold tp_sl
  rw [List.foldl_append]
  rfl
theorem tp_snoc {M : List Nat → Prop} (h0 : M []) (h1 : ∀ P c, M P → M (P ++ [c])) : ∀ P, M P := by
  have k : ∀ R : List Nat, M R.reverse := by
    intro R
    induction R with
    | nil => exact h0
    | cons c R ih => rw [List.reverse_cons]; exact h1 _ _ ih
  intro P
  have := k P.reverse
  rwa [List.reverse_reverse] at this
theorem tp_cases (P : List Nat) : P = [] ∨ ∃ R c, P = R ++ [c] := by
  refine tp_snoc (M := fun P => P = [] ∨ ∃ R c, P = R ++ [c]) (Or.inl rfl) ?_ P
  intro P c _
  exact Or.inr ⟨P, c, rfl⟩
theorem tp_len_snoc (P : List Nat) (c : Nat) : (P ++ [c]).length = P.length + 1 := by simp
theorem tp_sl_lt : ∀ P : List Nat, (∀ x, x ∈ P → x < 12) → tp_sl P < 16 ^ P.length := by
  refine tp_snoc (M := fun P => (∀ x, x ∈ P → x < 12) → tp_sl P < 16 ^ P.length) (fun _ => by decide) ?_
  intro P c ih h
  have h1 := ih (fun x hx => h x (List.mem_append_left _ hx))
  have h2 := h c (List.mem_append_right _ (List.mem_singleton.mpr rfl))
  rw [tp_sl_snoc, tp_len_snoc, Nat.pow_succ]
  omega
theorem tp_sl_ge : ∀ P : List Nat, 16 ^ P.length ≤ 16 * tp_sl P + 1 := by
  refine tp_snoc (M := fun P => 16 ^ P.length ≤ 16 * tp_sl P + 1) (by decide) ?_
  intro P c ih
  rw [tp_sl_snoc, tp_len_snoc, Nat.pow_succ]
  omega
theorem tp_sl_len {P R : List Nat} (h : ∀ x, x ∈ P → x < 12) (l : P.length < R.length) : tp_sl P < tp_sl R := by
  have h1 := tp_sl_lt P h
  have h2 := tp_sl_ge R
  have h3 : 16 ^ (P.length + 1) ≤ 16 ^ R.length := Nat.pow_le_pow_right (by decide) l
  rw [Nat.pow_succ] at h3
  omega
theorem tp_sl_inj : ∀ P : List Nat, (∀ x, x ∈ P → x < 12) → ∀ R : List Nat, (∀ x, x ∈ R → x < 12) → tp_sl P = tp_sl R → P = R := by
  refine tp_snoc (M := fun P => (∀ x, x ∈ P → x < 12) → ∀ R : List Nat, (∀ x, x ∈ R → x < 12) → tp_sl P = tp_sl R → P = R) ?_ ?_
  · intro _ R _ e
    rcases tp_cases R with z | ⟨T, c, z⟩
    · exact z.symm
    · rw [z, tp_sl_snoc, tp_sl_nil] at e
      omega
  · intro P c ih h R hR e
    rcases tp_cases R with z | ⟨T, d, z⟩
    · rw [z, tp_sl_snoc, tp_sl_nil] at e
      omega
    · subst z
      rw [tp_sl_snoc, tp_sl_snoc] at e
      have h1 := h c (List.mem_append_right _ (List.mem_singleton.mpr rfl))
      have h2 := hR d (List.mem_append_right _ (List.mem_singleton.mpr rfl))
      have e1 : tp_sl P = tp_sl T := by omega
      have e2 : c = d := by omega
      rw [ih (fun x hx => h x (List.mem_append_left _ hx)) T (fun x hx => hR x (List.mem_append_left _ hx)) e1, e2]
theorem tp_simple {g : tp_Cf} {F : tp_S → Nat → Prop} (hg : ∀ x, g.1 x = true → x < 12) (hF : tp_Way g F) {c : Nat} : ∀ (m : Nat) (P : List Nat), P.length ≤ m → tp_ok g tp_s0 P → F (tp_run g tp_s0 P) c →
    ∃ P' : List Nat, (P' ++ [c]).Nodup ∧ P'.length ≤ P.length ∧ tp_sl P' ≤ tp_sl P ∧ (∀ x, x ∈ P' → x ∈ P) ∧ tp_ok g tp_s0 P' ∧ F (tp_run g tp_s0 P') c := by
  intro m
  induction m with
  | zero =>
    intro P hP o f
    have e : P = [] := List.length_eq_zero_iff.mp (by omega)
    subst e
    exact ⟨[], List.nodup_cons.mpr ⟨List.not_mem_nil, List.nodup_nil⟩, Nat.le_refl _, Nat.le_refl _, fun _ h => h, o, f⟩
  | succ m ih =>
    intro P hP o f
    by_cases nd : (P ++ [c]).Nodup
    · exact ⟨P, nd, Nat.le_refl _, Nat.le_refl _, fun _ h => h, o, f⟩
    · obtain ⟨P1, l1, s1, o1, f1⟩ := tp_short hF o f nd
      obtain ⟨P2, n2, l2, sl2, s2, o2, f2⟩ := ih P1 (by omega) o1 f1
      have k : tp_sl P1 < tp_sl P := tp_sl_len (fun x hx => hg x (tp_ok_gd P1 tp_s0 o1 x hx)) l1
      exact ⟨P2, n2, by omega, by omega, fun x hx => s1 x (s2 x hx), o2, f2⟩
end
section
/-! how many paths: each certificate of a path follows none of the shorter beginnings but its own -/
def tp_F (k : Nat) : Nat := [0, 1, 2, 4, 6, 10, 15, 22, 33, 48, 69, 102, 147].getD k 0
theorem tp_F_le : ∀ a, a < 13 → ∀ d, d < 13 → d ≤ a → d * (1 + tp_F (a - d)) ≤ tp_F a := by decide +kernel
theorem tp_F_147 : ∀ a, a < 13 → tp_F a ≤ 147 := by decide +kernel
def tp_gs (g : tp_Cf) : tp_S → List Nat → List Nat → Prop
  | _, _, [] => True
  | s, A, c :: l => c ∈ A ∧ tp_fl g s.1 c = true ∧ tp_gs g (tp_nx g s c) (A.filter (fun x => !tp_fl g s.1 x)) l
def tp_cd (g : tp_Cf) : tp_S → List Nat → List Nat → Nat
  | _, _, [] => 0
  | s, A, c :: l => 1 + (A.filter (fun x => tp_fl g s.1 x)).idxOf c * (1 + tp_F (A.filter (fun x => !tp_fl g s.1 x)).length) + tp_cd g (tp_nx g s c) (A.filter (fun x => !tp_fl g s.1 x)) l
theorem tp_filter (p : Nat → Bool) : ∀ A : List Nat, (A.filter (fun x => p x)).length + (A.filter (fun x => !p x)).length = A.length := by
  intro A
  induction A with
  | nil => rfl
  | cons a A ih =>
    cases h : p a
    · simp [List.filter_cons, h]
      omega
    · simp [List.filter_cons, h]
      omega
theorem tp_cd_arith {j d f k : Nat} (h : j < d) (hk : k ≤ f) : 1 + j * (1 + f) + k ≤ d * (1 + f) := by
  have h1 : (j + 1) * (1 + f) ≤ d * (1 + f) := Nat.mul_le_mul_right _ h
  rw [Nat.succ_mul] at h1
  omega
theorem tp_cd_le (g : tp_Cf) : ∀ (l : List Nat) (s : tp_S) (A : List Nat), A.length ≤ 12 → tp_gs g s A l → tp_cd g s A l ≤ tp_F A.length := by
  intro l
  induction l with
  | nil => intro s A _ _; exact Nat.zero_le _
  | cons c l ih =>
    intro s A hA h
    have hs := tp_filter (tp_fl g s.1) A
    have hc : c ∈ A.filter (fun x => tp_fl g s.1 x) := List.mem_filter.mpr ⟨h.1, h.2.1⟩
    have hi := List.idxOf_lt_length_of_mem hc
    have hk := ih (tp_nx g s c) (A.filter (fun x => !tp_fl g s.1 x)) (by omega) h.2.2
    have hF := tp_F_le A.length (by omega) (A.filter (fun x => tp_fl g s.1 x)).length (by omega) (by omega)
    have he : A.length - (A.filter (fun x => tp_fl g s.1 x)).length = (A.filter (fun x => !tp_fl g s.1 x)).length := by omega
    rw [he] at hF
    exact Nat.le_trans (tp_cd_arith hi hk) hF
theorem tp_cd_split {j j' f k k' : Nat} (hk : k ≤ f) (hk' : k' ≤ f) (e : 1 + j * (1 + f) + k = 1 + j' * (1 + f) + k') : j = j' ∧ k = k' := by
  rcases Nat.lt_trichotomy j j' with h | h | h
  · have h1 : (j + 1) * (1 + f) ≤ j' * (1 + f) := Nat.mul_le_mul_right _ h
    rw [Nat.succ_mul] at h1
    omega
  · subst h
    exact ⟨rfl, by omega⟩
  · have h1 : (j' + 1) * (1 + f) ≤ j * (1 + f) := Nat.mul_le_mul_right _ h
    rw [Nat.succ_mul] at h1
    omega
theorem tp_idx_inj {A : List Nat} {a b : Nat} (ha : a ∈ A) (hb : b ∈ A) (e : A.idxOf a = A.idxOf b) : a = b := by
  have h1 := List.getElem_idxOf (List.idxOf_lt_length_of_mem ha)
  have h2 := List.getElem_idxOf (List.idxOf_lt_length_of_mem hb)
  rw [← h1, ← h2]
  simp only [e]
theorem tp_cd_inj (g : tp_Cf) : ∀ (l : List Nat) (l' : List Nat) (s : tp_S) (A : List Nat), A.length ≤ 12 → tp_gs g s A l → tp_gs g s A l' → tp_cd g s A l = tp_cd g s A l' → l = l' := by
  intro l
  induction l with
  | nil =>
    intro l' s A _ _ _ e
    cases l' with
    | nil => rfl
    | cons c l' =>
      have : (0 : Nat) = 1 + _ + _ := e
      omega
  | cons c l ih =>
    intro l' s A hA h h' e
    cases l' with
    | nil =>
      have : 1 + _ + _ = (0 : Nat) := e
      omega
    | cons d l' =>
      have hs := tp_filter (tp_fl g s.1) A
      have hA' : (A.filter (fun x => !tp_fl g s.1 x)).length ≤ 12 := by omega
      have k1 := tp_cd_le g l (tp_nx g s c) _ hA' h.2.2
      have k2 := tp_cd_le g l' (tp_nx g s d) _ hA' h'.2.2
      obtain ⟨e1, e2⟩ := tp_cd_split k1 k2 e
      have hc : c ∈ A.filter (fun x => tp_fl g s.1 x) := List.mem_filter.mpr ⟨h.1, h.2.1⟩
      have hd : d ∈ A.filter (fun x => tp_fl g s.1 x) := List.mem_filter.mpr ⟨h'.1, h'.2.1⟩
      have ecd : c = d := tp_idx_inj hc hd e1
      subst ecd
      rw [ih l' (tp_nx g s c) _ hA' h.2.2 h'.2.2 e2]
theorem tp_gs_snoc (g : tp_Cf) : ∀ (R : List Nat) (s : tp_S) (A : List Nat) (c : Nat), tp_gs g s A R → c ∈ A → (∀ T U, R = T ++ U → U ≠ [] → tp_fl g (tp_run g s T).1 c = false) → tp_fl g (tp_run g s R).1 c = true → tp_gs g s A (R ++ [c]) := by
  intro R
  induction R with
  | nil => intro s A c _ hc _ hf; exact ⟨hc, hf, trivial⟩
  | cons d R ih =>
    intro s A c h hc hp hf
    refine ⟨h.1, h.2.1, ih (tp_nx g s d) _ c h.2.2 ?_ ?_ hf⟩
    · have z := hp [] (d :: R) rfl (by simp)
      rw [tp_run_nil] at z
      exact List.mem_filter.mpr ⟨hc, by rw [z]; rfl⟩
    · intro T U e hU
      exact hp (d :: T) U (by rw [e]; rfl) hU
/-- a list of different paths of this kind is short -/
theorem tp_count (g : tp_Cf) {n : Nat} (hn : n ≤ 12) (Q : List (List Nat)) (hs : ∀ (q : Nat) (P : List Nat), Q[q]? = some P → tp_gs g tp_s0 (List.range n) P)
    (hd : ∀ (q q' : Nat) (P P' : List Nat), q < q' → Q[q]? = some P → Q[q']? = some P' → P ≠ P') : Q.length ≤ 148 := by
  have hr : (List.range n).length ≤ 12 := by rw [List.length_range]; exact hn
  have nd : (Q.map (tp_cd g tp_s0 (List.range n))).Nodup := by
    rw [List.nodup_iff_pairwise_ne, List.pairwise_iff_getElem]
    intro i j hi hj hij e
    rw [List.length_map] at hi hj
    rw [List.getElem_map, List.getElem_map] at e
    have e1 : Q[i]? = some Q[i] := List.getElem?_eq_getElem hi
    have e2 : Q[j]? = some Q[j] := List.getElem?_eq_getElem hj
    exact hd i j _ _ hij e1 e2 (tp_cd_inj g _ _ tp_s0 _ hr (hs i _ e1) (hs j _ e2) e)
  have sb : Q.map (tp_cd g tp_s0 (List.range n)) ⊆ List.range 148 := by
    intro x hx
    obtain ⟨P, hP, e⟩ := List.mem_map.mp hx
    obtain ⟨i, hi, e2⟩ := List.getElem_of_mem hP
    have e1 : Q[i]? = some P := by rw [List.getElem?_eq_getElem hi, e2]
    have h1 := tp_cd_le g P tp_s0 _ hr (hs i _ e1)
    have h2 := tp_F_147 (List.range n).length (by omega)
    rw [List.mem_range, ← e]
    omega
  have := List.Nodup.length_le_of_subset nd sb
  rw [List.length_map, List.length_range] at this
  exact this
end
section
/-! the search in rounds: Q holds the paths of the states, Q[0] = []; the pairs (p, c) ahead of (q0, c0) are done -/
theorem tp_nx_dom (g : tp_Cf) {s s' : tp_S} (h : tp_wle s s') (c : Nat) : tp_dom (tp_nx g s c) (tp_nx g s' c) := ⟨rfl, tp_nx_mon g h c⟩
def tp_pr (q0 c0 p c : Nat) : Prop := p < q0 ∨ (p = q0 ∧ c < c0)
def tp_Inv (g : tp_Cf) (n : Nat) (Q : List (List Nat)) (q0 c0 : Nat) : Prop :=
  Q[0]? = some [] ∧
  (∀ (q : Nat) (P : List Nat), Q[q]? = some P → tp_ok g tp_s0 P ∧ (∀ x, x ∈ P → x < n) ∧ tp_gs g tp_s0 (List.range n) P) ∧
  (∀ (q : Nat) (P : List Nat), Q[q]? = some P → 0 < q → ∃ (p : Nat) (R : List Nat) (c : Nat), p < q ∧ Q[p]? = some R ∧ P = R ++ [c] ∧ tp_pr q0 c0 p c) ∧
  (∀ (q q' : Nat) (P P' : List Nat), q < q' → Q[q]? = some P → Q[q']? = some P' → tp_sl P < tp_sl P') ∧
  (∀ (p : Nat) (R : List Nat) (c : Nat), Q[p]? = some R → tp_pr q0 c0 p c → tp_Ok g (tp_run g tp_s0 R) c → ∃ (k : Nat) (K : List Nat), Q[k]? = some K ∧ 0 < k ∧ tp_dom (tp_nx g (tp_run g tp_s0 R) c) (tp_run g tp_s0 K) ∧ tp_sl K ≤ tp_sl (R ++ [c]))
theorem tp_pr_s {q0 c0 p c : Nat} (h : tp_pr q0 c0 p c) : tp_pr q0 (c0 + 1) p c := by
  rcases h with h | h
  · exact Or.inl h
  · exact Or.inr ⟨h.1, by omega⟩
theorem tp_pr_c {q0 c0 p c : Nat} (h : tp_pr q0 (c0 + 1) p c) : tp_pr q0 c0 p c ∨ (p = q0 ∧ c = c0) := by
  rcases h with h | h
  · exact Or.inl (Or.inl h)
  · rcases Nat.lt_or_ge c c0 with z | z
    · exact Or.inl (Or.inr ⟨h.1, z⟩)
    · exact Or.inr ⟨h.1, by omega⟩
theorem tp_Inv_0 (g : tp_Cf) (n : Nat) : tp_Inv g n [[]] 0 0 := by
  have one : ∀ (q : Nat) (P : List Nat), ([[]] : List (List Nat))[q]? = some P → q = 0 ∧ P = [] := by
    intro q P h
    cases q with
    | zero => exact ⟨rfl, (Option.some.inj h).symm⟩
    | succ q => simp at h
  refine ⟨rfl, ?_, ?_, ?_, ?_⟩
  · intro q P h
    rw [(one q P h).2]
    exact ⟨trivial, fun x hx => absurd hx List.not_mem_nil, trivial⟩
  · intro q P h h0
    have := (one q P h).1
    omega
  · intro q q' P P' l h h'
    have := (one q P h).1
    have := (one q' P' h').1
    omega
  · intro p R c h z
    rcases z with z | z <;> omega
theorem tp_Inv_new {g : tp_Cf} {n : Nat} {Q : List (List Nat)} {q0 c0 : Nat} (hn : n ≤ 12) (I : tp_Inv g n Q q0 c0) {R : List Nat} (hR : Q[q0]? = some R) :
    ∀ (q : Nat) (P : List Nat), Q[q]? = some P → tp_sl P < tp_sl (R ++ [c0]) := by
  intro q P h
  rw [tp_sl_snoc]
  rcases Nat.eq_zero_or_pos q with z | z
  · subst z
    rw [I.1] at h
    rw [← Option.some.inj h, tp_sl_nil]
    omega
  · obtain ⟨p, T, c, hp, hT, e, pr⟩ := I.2.2.1 q P h z
    have hc : c < n := (I.2.1 q P h).2.1 c (by rw [e]; exact List.mem_append_right _ (List.mem_singleton.mpr rfl))
    rw [e, tp_sl_snoc]
    rcases pr with y | y
    · have := I.2.2.2.1 p q0 T R y hT hR
      omega
    · rw [y.1, hR] at hT
      rw [← Option.some.inj hT]
      omega
theorem tp_Inv_skip {g : tp_Cf} {n : Nat} {Q : List (List Nat)} {q0 c0 : Nat} (I : tp_Inv g n Q q0 c0) {R : List Nat} (hR : Q[q0]? = some R)
    (h : tp_Ok g (tp_run g tp_s0 R) c0 → ∃ (k : Nat) (K : List Nat), Q[k]? = some K ∧ 0 < k ∧ tp_dom (tp_nx g (tp_run g tp_s0 R) c0) (tp_run g tp_s0 K)) (hn : n ≤ 12) : tp_Inv g n Q q0 (c0 + 1) := by
  refine ⟨I.1, I.2.1, ?_, I.2.2.2.1, ?_⟩
  · intro q P hq h0
    obtain ⟨p, T, c, a1, a2, a3, a4⟩ := I.2.2.1 q P hq h0
    exact ⟨p, T, c, a1, a2, a3, tp_pr_s a4⟩
  · intro p T c hT pr ok
    rcases tp_pr_c pr with z | ⟨z1, z2⟩
    · exact I.2.2.2.2 p T c hT z ok
    · subst z1
      subst z2
      rw [hR] at hT
      cases hT
      obtain ⟨k, K, h1, h2, h3⟩ := h ok
      exact ⟨k, K, h1, h2, h3, Nat.le_of_lt (tp_Inv_new hn I hR k K h1)⟩
theorem tp_Inv_roll {g : tp_Cf} {n : Nat} {Q : List (List Nat)} {q0 : Nat} (hg : ∀ x, g.1 x = true → x < n) (I : tp_Inv g n Q q0 n) : tp_Inv g n Q (q0 + 1) 0 := by
  refine ⟨I.1, I.2.1, ?_, I.2.2.2.1, ?_⟩
  · intro q P hq h0
    obtain ⟨p, T, c, a1, a2, a3, a4⟩ := I.2.2.1 q P hq h0
    refine ⟨p, T, c, a1, a2, a3, Or.inl ?_⟩
    rcases a4 with z | z <;> omega
  · intro p T c hT pr ok
    refine I.2.2.2.2 p T c hT ?_ ok
    have hc := hg c ok.1
    rcases pr with z | z
    · rcases Nat.lt_or_ge p q0 with y | y
      · exact Or.inl y
      · exact Or.inr ⟨by omega, hc⟩
    · omega
/-- the beginnings of a path of the table stand in the table, earlier -/
theorem tp_Inv_anc {g : tp_Cf} {n : Nat} {Q : List (List Nat)} {q0 c0 : Nat} (I : tp_Inv g n Q q0 c0) :
    ∀ (m q : Nat), q ≤ m → ∀ P : List Nat, Q[q]? = some P → ∀ T U : List Nat, P = T ++ U → ∃ p, p ≤ q ∧ Q[p]? = some T ∧ (U ≠ [] → p < q) := by
  intro m
  induction m with
  | zero =>
    intro q hq P hP T U e
    have z : q = 0 := by omega
    subst z
    rw [I.1] at hP
    have e2 : T ++ U = [] := by rw [← e]; exact (Option.some.inj hP).symm
    obtain ⟨eT, eU⟩ := List.append_eq_nil_iff.mp e2
    exact ⟨0, Nat.le_refl _, by rw [eT]; exact I.1, fun h => absurd eU h⟩
  | succ m ih =>
    intro q hq P hP T U e
    rcases tp_cases U with z | ⟨V, x, z⟩
    · subst z
      rw [List.append_nil] at e
      exact ⟨q, Nat.le_refl _, by rw [← e]; exact hP, fun h => absurd rfl h⟩
    · rcases Nat.eq_zero_or_pos q with z0 | z0
      · subst z0
        rw [I.1] at hP
        have e2 : T ++ U = [] := by rw [← e]; exact (Option.some.inj hP).symm
        rw [z] at e2
        simp at e2
      · obtain ⟨p, R, c, a1, a2, a3, a4⟩ := I.2.2.1 q P hP z0
        have e3 : R ++ [c] = (T ++ V) ++ [x] := by rw [← a3, e, z, List.append_assoc]
        have e4 := (List.append_singleton_inj.mp e3).1
        obtain ⟨p', b1, b2, b3⟩ := ih p (by omega) R a2 T V e4
        exact ⟨p', by omega, b2, fun _ => by omega⟩
theorem tp_app_get {Q : List (List Nat)} {N : List Nat} {q : Nat} {P : List Nat} (h : (Q ++ [N])[q]? = some P) : Q[q]? = some P ∨ (q = Q.length ∧ P = N) := by
  rcases Nat.lt_or_ge q Q.length with z | z
  · rw [List.getElem?_append_left z] at h
    exact Or.inl h
  · rw [List.getElem?_append_right z] at h
    cases e : q - Q.length with
    | zero =>
      rw [e] at h
      exact Or.inr ⟨by omega, (Option.some.inj h).symm⟩
    | succ k =>
      rw [e] at h
      simp at h
theorem tp_get_lt {Q : List (List Nat)} {q : Nat} {P : List Nat} (h : Q[q]? = some P) : q < Q.length := by
  obtain ⟨z, _⟩ := List.getElem?_eq_some_iff.mp h
  exact z
theorem tp_app_l {Q : List (List Nat)} {N : List Nat} {q : Nat} {P : List Nat} (h : Q[q]? = some P) : (Q ++ [N])[q]? = some P := by
  rw [List.getElem?_append_left (tp_get_lt h)]
  exact h
theorem tp_app_e {Q : List (List Nat)} {N : List Nat} : (Q ++ [N])[Q.length]? = some N := by
  rw [List.getElem?_append_right (Nat.le_refl _), Nat.sub_self]
  rfl
theorem tp_Inv_store {g : tp_Cf} {n : Nat} {Q : List (List Nat)} {q0 c0 : Nat} (hn : n ≤ 12) (hg : ∀ x, g.1 x = true → x < n) (I : tp_Inv g n Q q0 c0) {R : List Nat} (hR : Q[q0]? = some R)
    (ok : tp_Ok g (tp_run g tp_s0 R) c0) (nb : ¬ ∃ (k : Nat) (K : List Nat), Q[k]? = some K ∧ 0 < k ∧ tp_dom (tp_nx g (tp_run g tp_s0 R) c0) (tp_run g tp_s0 K)) : tp_Inv g n (Q ++ [R ++ [c0]]) q0 (c0 + 1) := by
  have hnew := tp_Inv_new hn I hR
  have hc : c0 < n := hg c0 ok.1
  refine ⟨tp_app_l I.1, ?_, ?_, ?_, ?_⟩
  · intro q P h
    rcases tp_app_get h with z | ⟨_, z⟩
    · exact I.2.1 q P z
    · subst z
      obtain ⟨r1, r2, r3⟩ := I.2.1 q0 R hR
      refine ⟨(tp_ok_snoc g _ R c0).mpr ⟨r1, ok⟩, ?_, ?_⟩
      · intro x hx
        rcases List.mem_append.mp hx with y | y
        · exact r2 x y
        · rw [List.mem_singleton.mp y]
          exact hc
      · refine tp_gs_snoc g R tp_s0 _ c0 r3 (List.mem_range.mpr hc) ?_ ok.2.1
        intro T U e hU
        cases hf : tp_fl g (tp_run g tp_s0 T).1 c0 with
        | false => rfl
        | true =>
          exfalso
          obtain ⟨p, p1, p2, p3⟩ := tp_Inv_anc I q0 q0 (Nat.le_refl _) R hR T U e
          have w : tp_wle (tp_run g tp_s0 R) (tp_run g tp_s0 T) := by
            rw [e, tp_run_app]
            exact tp_run_wle g U _
          obtain ⟨k, K, k1, k2, k3, _⟩ := I.2.2.2.2 p T c0 p2 (Or.inl (p3 hU)) (tp_Ok_mon w hf ok)
          exact nb ⟨k, K, k1, k2, tp_dom_trans (tp_nx_dom g w c0) k3⟩
  · intro q P h h0
    rcases tp_app_get h with z | ⟨z1, z2⟩
    · obtain ⟨p, T, c, a1, a2, a3, a4⟩ := I.2.2.1 q P z h0
      exact ⟨p, T, c, a1, tp_app_l a2, a3, tp_pr_s a4⟩
    · exact ⟨q0, R, c0, by rw [z1]; exact tp_get_lt hR, tp_app_l hR, z2, Or.inr ⟨rfl, by omega⟩⟩
  · intro q q' P P' l h h'
    rcases tp_app_get h with z | ⟨z1, z2⟩
    · rcases tp_app_get h' with y | ⟨y1, y2⟩
      · exact I.2.2.2.1 q q' P P' l z y
      · rw [y2]
        exact hnew q P z
    · rcases tp_app_get h' with y | ⟨y1, y2⟩
      · have := tp_get_lt y
        omega
      · omega
  · intro p T c hT pr okc
    rcases tp_app_get hT with z | ⟨z1, z2⟩
    · rcases tp_pr_c pr with y | ⟨y1, y2⟩
      · obtain ⟨k, K, k1, k2, k3, k4⟩ := I.2.2.2.2 p T c z y okc
        exact ⟨k, K, tp_app_l k1, k2, k3, k4⟩
      · subst y1
        subst y2
        rw [hR] at z
        cases z
        refine ⟨Q.length, R ++ [c], tp_app_e, ?_, ?_, Nat.le_refl _⟩
        · have := tp_get_lt hR
          omega
        · rw [tp_run_snoc]
          exact tp_dom_refl _
    · have := tp_get_lt hR
      rcases pr with y | y <;> omega
theorem tp_Inv_len {g : tp_Cf} {n : Nat} {Q : List (List Nat)} {q0 c0 : Nat} (hn : n ≤ 12) (I : tp_Inv g n Q q0 c0) : Q.length ≤ 148 := by
  refine tp_count g hn Q (fun q P h => (I.2.1 q P h).2.2) ?_
  intro q q' P P' l h h' e
  have := I.2.2.2.1 q q' P P' l h h'
  rw [e] at this
  omega
/-- what stands when the rounds are over -/
def tp_Fnd (g : tp_Cf) (n : Nat) (Q : List (List Nat)) : Prop :=
  Q[0]? = some [] ∧ Q.length ≤ 148 ∧
  (∀ (q : Nat) (P : List Nat), Q[q]? = some P → tp_ok g tp_s0 P ∧ (∀ x, x ∈ P → x < n) ∧ P.length ≤ 5) ∧
  (∀ (q : Nat) (P : List Nat), Q[q]? = some P → 0 < q → ∃ (p : Nat) (R : List Nat) (c : Nat), p < q ∧ Q[p]? = some R ∧ P = R ++ [c]) ∧
  (∀ (q q' : Nat) (P P' : List Nat), q < q' → Q[q]? = some P → Q[q']? = some P' → tp_sl P < tp_sl P') ∧
  (∀ P, P.length ≤ 5 → tp_ok g tp_s0 P → ∃ (k : Nat) (K : List Nat), Q[k]? = some K ∧ tp_dom (tp_run g tp_s0 P) (tp_run g tp_s0 K) ∧ tp_sl K ≤ tp_sl P)
theorem tp_full {g : tp_Cf} {n : Nat} {Q : List (List Nat)} {q0 : Nat} (hn : n ≤ 12) (hg : ∀ x, g.1 x = true → x < n) (I : tp_Inv g n Q q0 0)
    (h5 : ∀ (q : Nat) (P : List Nat), Q[q]? = some P → P.length ≤ 5) (h4 : ∀ (q : Nat) (P : List Nat), Q[q]? = some P → P.length ≤ 4 → q < q0) : tp_Fnd g n Q := by
  refine ⟨I.1, tp_Inv_len hn I, fun q P h => ⟨(I.2.1 q P h).1, (I.2.1 q P h).2.1, h5 q P h⟩, ?_, I.2.2.2.1, ?_⟩
  · intro q P h h0
    obtain ⟨p, R, c, a1, a2, a3, _⟩ := I.2.2.1 q P h h0
    exact ⟨p, R, c, a1, a2, a3⟩
  · refine tp_snoc (M := fun P => P.length ≤ 5 → tp_ok g tp_s0 P → ∃ (k : Nat) (K : List Nat), Q[k]? = some K ∧ tp_dom (tp_run g tp_s0 P) (tp_run g tp_s0 K) ∧ tp_sl K ≤ tp_sl P) ?_ ?_
    · intro _ _
      exact ⟨0, [], I.1, tp_dom_refl _, Nat.le_refl _⟩
    · intro R c ih hl ok
      rw [tp_len_snoc] at hl
      rw [tp_ok_snoc] at ok
      obtain ⟨k, K, k1, k2, k3⟩ := ih (by omega) ok.1
      have hK : K.length ≤ 4 := by
        rcases Nat.lt_or_ge R.length K.length with z | z
        · have := tp_sl_len (P := R) (R := K) (fun x hx => Nat.lt_of_lt_of_le (hg x (tp_ok_gd R _ ok.1 x hx)) hn) z
          omega
        · omega
      have okK : tp_Ok g (tp_run g tp_s0 K) c := tp_Ok_mon k2.2 (by rw [← k2.1]; exact ok.2.2.1) ok.2
      obtain ⟨j, J, j1, j2, j3, j4⟩ := I.2.2.2.2 k K c k1 (Or.inl (h4 k K k1 hK)) okK
      refine ⟨j, J, j1, ?_, ?_⟩
      · rw [tp_run_snoc]
        exact tp_dom_trans (tp_nx_dom g k2.2 c) j3
      · rw [tp_sl_snoc] at j4 ⊢
        omega
/-- the best path to c: of all walks the first -/
def tp_Best (g : tp_Cf) (c : Nat) (P : List Nat) : Prop :=
  tp_ok g tp_s0 P ∧ P.length ≤ 5 ∧ tp_fin g (tp_run g tp_s0 P) c ∧ ∀ P', tp_ok g tp_s0 P' → P'.length ≤ 5 → tp_fin g (tp_run g tp_s0 P') c → tp_sl P ≤ tp_sl P'
def tp_Walk (g : tp_Cf) (F : tp_S → Nat → Prop) (c : Nat) : Prop := ∃ P : List Nat, P.length ≤ 5 ∧ tp_ok g tp_s0 P ∧ F (tp_run g tp_s0 P) c
theorem tp_Best_uni {g : tp_Cf} {c : Nat} {P R : List Nat} (hg : ∀ x, g.1 x = true → x < 12) (h : tp_Best g c P) (k : tp_Best g c R) : P = R := by
  have h1 := h.2.2.2 R k.1 k.2.1 k.2.2.1
  have h2 := k.2.2.2 P h.1 h.2.1 h.2.2.1
  exact tp_sl_inj P (fun x hx => hg x (tp_ok_gd P _ h.1 x hx)) R (fun x hx => hg x (tp_ok_gd R _ k.1 x hx)) (by omega)
theorem tp_Fnd_walk {g : tp_Cf} {n : Nat} {Q : List (List Nat)} (h : tp_Fnd g n Q) {F : tp_S → Nat → Prop} (hF : tp_Way g F) (c : Nat) :
    tp_Walk g F c ↔ ∃ (q : Nat) (P : List Nat), Q[q]? = some P ∧ F (tp_run g tp_s0 P) c := by
  constructor
  · rintro ⟨P, l, ok, f⟩
    obtain ⟨k, K, k1, k2, _⟩ := h.2.2.2.2.2 P l ok
    exact ⟨k, K, k1, hF.1 _ _ c k2.2 (by rw [← k2.1]; exact hF.2 _ _ f) f⟩
  · rintro ⟨q, P, hq, f⟩
    obtain ⟨a1, _, a3⟩ := h.2.2.1 q P hq
    exact ⟨P, a3, a1, f⟩
theorem tp_Fnd_best {g : tp_Cf} {n : Nat} {Q : List (List Nat)} (h : tp_Fnd g n Q) {c q : Nat} {P : List Nat} (hq : Q[q]? = some P) (f : tp_fin g (tp_run g tp_s0 P) c)
    (hl : ∀ (q' : Nat) (P' : List Nat), q' < q → Q[q']? = some P' → ¬ tp_fin g (tp_run g tp_s0 P') c) : tp_Best g c P := by
  obtain ⟨a1, _, a3⟩ := h.2.2.1 q P hq
  refine ⟨a1, a3, f, fun P' ok l f' => ?_⟩
  obtain ⟨k, K, k1, k2, k3⟩ := h.2.2.2.2.2 P' l ok
  have fK : tp_fin g (tp_run g tp_s0 K) c := tp_fin_mon k2.2 (by rw [← k2.1]; exact f'.2.1) f'
  rcases Nat.lt_trichotomy k q with z | z | z
  · exact absurd fK (hl k K z k1)
  · subst z
    rw [hq] at k1
    cases k1
    exact k3
  · have := h.2.2.2.2.1 q k P K z hq k1
    omega
end
section
/-! the lists of the reference -/
def tp_pl (g : tp_Cf) (P : List Nat) (c : Nat) : Int32 := (tp_run g tp_s0 P).2.2.2 &&& g.2.2.2.2.2.1 (5 * c + 4)
def tp_Ev (g : tp_Cf) (P : List Nat) (c : Nat) : Prop := P.length ≤ 5 ∧ (P ++ [c]).Nodup ∧ tp_ok g tp_s0 P ∧ tp_fin g (tp_run g tp_s0 P) c
def tp_Acc (g : tp_Cf) (E : List Nat → Nat → Prop) (ln st fo co : Nat → Int32) : Prop :=
  ∀ c, c < 12 →
    ((ln c = 0 ∧ ∀ P, ¬ E P c) ∨
      (∃ P, E P c ∧ P.length ≤ 5 ∧ ln c = nI (P.length + 1) ∧ (∀ (i x : Nat), (P ++ [c])[i]? = some x → st (6 * c + i) = nI x) ∧ (∀ P', E P' c → tp_sl P ≤ tp_sl P') ∧
        (∀ x, x < 12 → (bt (co c) x = true ↔ ∀ P', E P' c → x ∈ P')))) ∧
    (∀ b, b < 32 → (bt (fo c) b = true ↔ ∃ P, E P c ∧ bt (tp_pl g P c) b = true))
theorem tp_Acc_eq {g : tp_Cf} {E E' : List Nat → Nat → Prop} {ln st fo co : Nat → Int32} (A : tp_Acc g E ln st fo co) (h : ∀ P c, E P c ↔ E' P c) : tp_Acc g E' ln st fo co := by
  have e : E = E' := funext (fun P => funext (fun c => propext (h P c)))
  rw [← e]
  exact A
theorem tp_Acc_0 (g : tp_Cf) {ln st fo co : Nat → Int32} (h : ∀ c, c < 12 → ln c = 0 ∧ fo c = 0) : tp_Acc g (fun _ _ => False) ln st fo co := by
  intro c hc
  refine ⟨Or.inl ⟨(h c hc).1, fun _ z => z⟩, fun b hb => ?_⟩
  rw [(h c hc).2, b_0]
  exact ⟨fun z => absurd z (by decide), fun ⟨_, z, _⟩ => z.elim⟩
theorem tp_get_len {P : List Nat} {c i x : Nat} (h : (P ++ [c])[i]? = some x) : i < P.length + 1 := by
  obtain ⟨z, _⟩ := List.getElem?_eq_some_iff.mp h
  rw [tp_len_snoc] at z
  exact z
theorem tp_Acc_add {g : tp_Cf} {E : List Nat → Nat → Prop} {ln st fo co ln' st' co' : Nat → Int32} {P : List Nat} {c : Nat} {o : Int32} (A : tp_Acc g E ln st fo co) (hc : c < 12) (hP : P.length ≤ 5)
    (hx : ∀ x, x ∈ P → x < 12) (hE : ∀ P', E P' c → P'.length = P.length → tp_sl P' ≤ tp_sl P) (hEx : ∀ P', E P' c → ∀ x, x ∈ P' → x < 12) (ho : ∀ x, x < 12 → (bt o x = true ↔ x ∈ P))
    (hl : ((ln c = 0 ∨ ¬ ln c ≤ nI (P.length + 1)) ∧ ln' = upd ln c (nI (P.length + 1)) ∧ (∀ (i x : Nat), (P ++ [c])[i]? = some x → st' (6 * c + i) = nI x) ∧ (∀ j, (j < 6 * c ∨ 6 * c + 6 ≤ j) → st' j = st j)) ∨
      (¬ ln c = 0 ∧ ln c ≤ nI (P.length + 1) ∧ ln' = ln ∧ st' = st))
    (hco : (ln c = 0 ∧ co' = upd co c o) ∨ (¬ ln c = 0 ∧ co' = upd co c (co c &&& o))) :
    tp_Acc g (fun P' c' => E P' c' ∨ (P' = P ∧ c' = c)) ln' st' (upd fo c (fo c ||| tp_pl g P c)) co' := by
  intro d hd
  by_cases e : d = c
  · subst e
    have hA := A d hd
    constructor
    · right
      rcases hA.1 with ⟨z1, z2⟩ | ⟨P0, p1, p2, p3, p4, p5, p6⟩
      · rcases hl with ⟨_, l2, l3, _⟩ | ⟨l1, _⟩
        · refine ⟨P, Or.inr ⟨rfl, rfl⟩, hP, by rw [l2, pk_us], l3, ?_, ?_⟩
          · rintro P' (y | ⟨y, _⟩)
            · exact absurd y (z2 P')
            · rw [y]; exact Nat.le_refl _
          · intro x hx12
            rcases hco with ⟨_, k⟩ | ⟨k, _⟩
            · rw [k, pk_us, ho x hx12]
              constructor
              · rintro y P' (w | ⟨w, _⟩)
                · exact absurd w (z2 P')
                · rw [w]; exact y
              · intro y
                exact y P (Or.inr ⟨rfl, rfl⟩)
            · exact absurd z1 k
        · exact absurd z1 l1
      · have ne : ¬ ln d = 0 := by
          rw [p3]
          exact nI_ne0 (by omega) (by omega)
        have hbits : ∀ x, x < 12 → (bt (co' d) x = true ↔ ∀ P', (E P' d ∨ (P' = P ∧ d = d)) → x ∈ P') := by
          intro x hx12
          rcases hco with ⟨k, _⟩ | ⟨_, k⟩
          · exact absurd k ne
          · rw [k, pk_us, b_and, Bool.and_eq_true, p6 x hx12, ho x hx12]
            constructor
            · rintro ⟨y1, y2⟩ P' (w | ⟨w, _⟩)
              · exact y1 P' w
              · rw [w]; exact y2
            · intro y
              exact ⟨fun P' w => y P' (Or.inl w), y P (Or.inr ⟨rfl, rfl⟩)⟩
        rcases hl with ⟨l1, l2, l3, _⟩ | ⟨_, l2, l3, l4⟩
        · have hlt : P.length < P0.length := by
            rcases l1 with l1 | l1
            · exact absurd l1 ne
            · rw [p3, nI_leI (by omega) (by omega)] at l1
              omega
          have hsl := tp_sl_len hx hlt
          refine ⟨P, Or.inr ⟨rfl, rfl⟩, hP, by rw [l2, pk_us], l3, ?_, hbits⟩
          rintro P' (y | ⟨y, _⟩)
          · have := p5 P' y
            omega
          · rw [y]; exact Nat.le_refl _
        · refine ⟨P0, Or.inl p1, p2, by rw [l3]; exact p3, by rw [l4]; exact p4, ?_, hbits⟩
          rintro P' (y | ⟨y, _⟩)
          · exact p5 P' y
          · rw [y]
            rw [p3, nI_leI (by omega) (by omega)] at l2
            rcases Nat.lt_or_ge P0.length P.length with w | w
            · exact Nat.le_of_lt (tp_sl_len (hEx P0 p1) w)
            · exact hE P0 p1 (by omega)
    · intro b hb
      rw [pk_us, b_or, Bool.or_eq_true, hA.2 b hb]
      constructor
      · rintro (⟨P', w1, w2⟩ | w)
        · exact ⟨P', Or.inl w1, w2⟩
        · exact ⟨P, Or.inr ⟨rfl, rfl⟩, w⟩
      · rintro ⟨P', w1 | ⟨w1, _⟩, w2⟩
        · exact Or.inl ⟨P', w1, w2⟩
        · rw [w1] at w2
          exact Or.inr w2
  · have hA := A d hd
    have eln : ln' d = ln d := by
      rcases hl with ⟨_, l2, _⟩ | ⟨_, _, l3, _⟩
      · rw [l2, pk_un e]
      · rw [l3]
    have eco : co' d = co d := by
      rcases hco with ⟨_, k⟩ | ⟨_, k⟩
      · rw [k, pk_un e]
      · rw [k, pk_un e]
    have est : ∀ i, i < 6 → st' (6 * d + i) = st (6 * d + i) := by
      intro i hi
      rcases hl with ⟨_, _, _, l4⟩ | ⟨_, _, _, l4⟩
      · exact l4 _ (by omega)
      · rw [l4]
    have eE : ∀ P', (E P' d ∨ (P' = P ∧ d = c)) ↔ E P' d := fun P' => ⟨fun z => z.elim id (fun w => absurd w.2 e), Or.inl⟩
    simp only [eE, eln, eco, pk_un e]
    refine ⟨?_, hA.2⟩
    rcases hA.1 with z | ⟨P0, p1, p2, p3, p4, p5, p6⟩
    · exact Or.inl z
    · refine Or.inr ⟨P0, p1, p2, p3, ?_, p5, p6⟩
      intro i x hix
      have := tp_get_len hix
      rw [est i (by omega)]
      exact p4 i x hix
/-! the order in which the reference meets them -/
def tp_pos (P : List Nat) (i : Nat) : Nat := (16 * tp_sl P + i + 1) * 16 ^ (5 - P.length)
theorem tp_pos_sl (P : List Nat) (i : Nat) : tp_pos P i = tp_sl (P ++ [i]) * 16 ^ (5 - P.length) := by rw [tp_sl_snoc]; rfl
theorem tp_sl_app : ∀ (R P : List Nat), tp_sl (P ++ R) = tp_sl P * 16 ^ R.length + tp_sl R := by
  refine tp_snoc (M := fun R => ∀ P : List Nat, tp_sl (P ++ R) = tp_sl P * 16 ^ R.length + tp_sl R) ?_ ?_
  · intro P
    rw [List.append_nil, tp_sl_nil]
    simp
  · intro R c ih P
    rw [← List.append_assoc, tp_sl_snoc, tp_sl_snoc, ih P, tp_len_snoc, Nat.pow_succ, Nat.mul_add, ← Nat.mul_assoc, ← Nat.mul_assoc]
    have : 16 * tp_sl P * 16 ^ R.length = tp_sl P * 16 ^ R.length * 16 := by
      rw [Nat.mul_assoc, Nat.mul_comm 16]
    omega
theorem tp_pos_lt {P P' R : List Nat} {c' j : Nat} (e : P' ++ [c'] = P ++ j :: R) (l : P'.length ≤ 5) (h : ∀ x, x ∈ P' ++ [c'] → x < 12) : tp_pos P' c' < tp_pos P (j + 1) := by
  have e2 : P' ++ [c'] = (P ++ [j]) ++ R := by rw [e, List.append_assoc]; rfl
  have hR : tp_sl R < 16 ^ R.length := tp_sl_lt R (fun x hx => h x (by rw [e2]; exact List.mem_append_right _ hx))
  have hlen : P'.length = P.length + R.length := by
    have := congrArg List.length e
    simp at this
    omega
  rw [tp_pos_sl P' c', e2, tp_sl_app R (P ++ [j])]
  have h1 : tp_sl (P ++ [j]) * 16 ^ R.length + tp_sl R < (tp_sl (P ++ [j]) + 1) * 16 ^ R.length := by
    rw [Nat.succ_mul]
    omega
  have h2 : 5 - P.length = R.length + (5 - P'.length) := by omega
  have h3 : tp_pos P (j + 1) = (tp_sl (P ++ [j]) + 1) * 16 ^ R.length * 16 ^ (5 - P'.length) := by
    unfold tp_pos
    rw [tp_sl_snoc, h2, Nat.pow_add, ← Nat.mul_assoc]
    rfl
  rw [h3]
  exact Nat.mul_lt_mul_of_pos_right h1 (Nat.pow_pos (by decide))
theorem tp_pos_le {P P' : List Nat} {c : Nat} (h : tp_pos P' c < tp_pos P c) (l : P'.length = P.length) : tp_sl P' ≤ tp_sl P := by
  unfold tp_pos at h
  rw [l] at h
  have := Nat.lt_of_mul_lt_mul_right h
  omega
theorem tp_pos_s {P : List Nat} {i : Nat} : tp_pos P i < tp_pos P (i + 1) := by
  unfold tp_pos
  exact Nat.mul_lt_mul_of_pos_right (by omega) (Nat.pow_pos (by decide))
theorem tp_pos_ch {P : List Nat} {i : Nat} (h : P.length < 5) : tp_pos P i < tp_pos (P ++ [i]) 0 := by
  rw [tp_pos_sl P i]
  unfold tp_pos
  rw [tp_len_snoc]
  have e : 5 - P.length = (5 - (P.length + 1)) + 1 := by omega
  rw [e, Nat.pow_succ, Nat.mul_comm (16 ^ (5 - (P.length + 1))) 16, ← Nat.mul_assoc]
  exact Nat.mul_lt_mul_of_pos_right (by omega) (Nat.pow_pos (by decide))
/-- the lists that begin with P and go on with i or more -/
def tp_Sub (g : tp_Cf) (P : List Nat) (i : Nat) (P' : List Nat) (c' : Nat) : Prop := tp_Ev g P' c' ∧ ∃ j R, P' ++ [c'] = P ++ j :: R ∧ i ≤ j
theorem tp_Ev_lt {g : tp_Cf} {n : Nat} (hg : ∀ x, g.1 x = true → x < n) {P : List Nat} {c : Nat} (h : tp_Ev g P c) : ∀ x, x ∈ P ++ [c] → x < n := by
  intro x hx
  rcases List.mem_append.mp hx with z | z
  · exact hg x (tp_ok_gd P _ h.2.2.1 x z)
  · rw [List.mem_singleton.mp z]
    exact hg c h.2.2.2.1
theorem tp_Sub_end {g : tp_Cf} {n : Nat} (hg : ∀ x, g.1 x = true → x < n) {P P' : List Nat} {i c' : Nat} (hi : n ≤ i) : ¬ tp_Sub g P i P' c' := by
  rintro ⟨h, j, R, e, hj⟩
  have := tp_Ev_lt hg h j (by rw [e]; exact List.mem_append_right _ (List.mem_cons.mpr (Or.inl rfl)))
  omega
theorem tp_Sub_step {g : tp_Cf} {P P' : List Nat} {i c' : Nat} : tp_Sub g P i P' c' ↔ (tp_Ev g P i ∧ P' = P ∧ c' = i) ∨ tp_Sub g (P ++ [i]) 0 P' c' ∨ tp_Sub g P (i + 1) P' c' := by
  constructor
  · rintro ⟨h, j, R, e, hj⟩
    by_cases z : j = i
    · subst z
      cases R with
      | nil =>
        obtain ⟨e1, e2⟩ := List.append_singleton_inj.mp e
        subst e1
        subst e2
        exact Or.inl ⟨h, rfl, rfl⟩
      | cons k R => exact Or.inr (Or.inl ⟨h, k, R, by rw [e, List.append_assoc]; rfl, Nat.zero_le _⟩)
    · exact Or.inr (Or.inr ⟨h, j, R, e, by omega⟩)
  · rintro (⟨h, e1, e2⟩ | ⟨h, j, R, e, hj⟩ | ⟨h, j, R, e, hj⟩)
    · subst e1
      subst e2
      exact ⟨h, c', [], rfl, Nat.le_refl _⟩
    · exact ⟨h, i, j :: R, by rw [e, List.append_assoc]; rfl, Nat.le_refl _⟩
    · exact ⟨h, j, R, e, by omega⟩
theorem tp_Sub_no {g : tp_Cf} {P P' : List Nat} {i c' : Nat} (h : P.length = 5 ∨ i ∈ P ∨ ¬ tp_Ok g (tp_run g tp_s0 P) i) : ¬ tp_Sub g (P ++ [i]) 0 P' c' := by
  rintro ⟨v, j, R, e, _⟩
  obtain ⟨T, x, eT⟩ : ∃ T x, j :: R = T ++ [x] := by
    rcases tp_cases (j :: R) with z | z
    · exact absurd z (by simp)
    · exact z
  rw [eT, ← List.append_assoc] at e
  have e1 : P' = (P ++ [i]) ++ T := (List.append_singleton_inj.mp e).1
  have v1 := v.1
  have v2 := v.2.1
  have v3 := v.2.2.1
  rw [e1] at v1 v2 v3
  rcases h with h | h | h
  · simp at v1
    omega
  · rw [List.append_assoc, List.nodup_append] at v2
    have := (tp_nodup_snoc.mp v2.1).2
    exact this h
  · rw [tp_ok_app, tp_ok_snoc] at v3
    exact h v3.1.2
theorem tp_Sub_all {g : tp_Cf} {P' : List Nat} {c' : Nat} : tp_Sub g [] 0 P' c' ↔ tp_Ev g P' c' := by
  constructor
  · exact fun h => h.1
  · intro h
    refine ⟨h, ?_⟩
    cases e : P' ++ [c'] with
    | nil => simp at e
    | cons j R => exact ⟨j, R, rfl, Nat.zero_le _⟩
/-! one certificate left out -/
def tp_wo (g : tp_Cf) (x : Nat) : tp_Cf := (fun c => g.1 c && decide (¬ c = x), g.2)
theorem tp_wo_Ok {g : tp_Cf} {x : Nat} {s : tp_S} {c : Nat} : tp_Ok (tp_wo g x) s c ↔ tp_Ok g s c ∧ ¬ c = x := by
  have e : ((tp_wo g x).1 c = true) ↔ (g.1 c = true ∧ ¬ c = x) := by
    show (g.1 c && decide (¬ c = x)) = true ↔ _
    rw [Bool.and_eq_true, decide_eq_true_iff]
  constructor
  · intro h
    have := e.mp h.1
    exact ⟨⟨this.1, h.2⟩, this.2⟩
  · intro h
    exact ⟨e.mpr ⟨h.1.1, h.2⟩, h.1.2⟩
theorem tp_wo_fin {g : tp_Cf} {x : Nat} {s : tp_S} {c : Nat} : tp_fin (tp_wo g x) s c ↔ tp_fin g s c ∧ ¬ c = x := by
  have e : ((tp_wo g x).1 c = true) ↔ (g.1 c = true ∧ ¬ c = x) := by
    show (g.1 c && decide (¬ c = x)) = true ↔ _
    rw [Bool.and_eq_true, decide_eq_true_iff]
  constructor
  · intro h
    have := e.mp h.1
    exact ⟨⟨this.1, h.2⟩, this.2⟩
  · intro h
    exact ⟨e.mpr ⟨h.1.1, h.2⟩, h.1.2⟩
theorem tp_wo_nx (g : tp_Cf) (x : Nat) (s : tp_S) (c : Nat) : tp_nx (tp_wo g x) s c = tp_nx g s c := rfl
theorem tp_wo_run (g : tp_Cf) (x : Nat) : ∀ (P : List Nat) (s : tp_S), tp_run (tp_wo g x) s P = tp_run g s P := by
  intro P
  induction P with
  | nil => intro s; rfl
  | cons c P ih => intro s; rw [tp_run_cons, tp_run_cons, tp_wo_nx]; exact ih _
theorem tp_wo_ok (g : tp_Cf) (x : Nat) : ∀ (P : List Nat) (s : tp_S), tp_ok (tp_wo g x) s P ↔ tp_ok g s P ∧ x ∉ P := by
  intro P
  induction P with
  | nil => intro s; exact ⟨fun _ => ⟨trivial, List.not_mem_nil⟩, fun _ => trivial⟩
  | cons c P ih =>
    intro s
    constructor
    · intro h
      have h1 := tp_wo_Ok.mp h.1
      have h2 := (ih (tp_nx g s c)).mp h.2
      refine ⟨⟨h1.1, h2.1⟩, fun z => ?_⟩
      rcases List.mem_cons.mp z with z | z
      · exact h1.2 z.symm
      · exact h2.2 z
    · intro h
      have hx : ¬ c = x := fun z => h.2 (List.mem_cons.mpr (Or.inl z.symm))
      exact ⟨tp_wo_Ok.mpr ⟨h.1.1, hx⟩, (ih (tp_nx g s c)).mpr ⟨h.1.2, fun z => h.2 (List.mem_cons.mpr (Or.inr z))⟩⟩
/-! what the reference has found, by walks -/
theorem tp_Ev_walk {g : tp_Cf} (hg : ∀ x, g.1 x = true → x < 12) {c : Nat} {F : tp_S → Nat → Prop} (hF : tp_Way g F) (hFf : ∀ s, F s c → tp_fin g s c) :
    tp_Walk g F c ↔ ∃ P, tp_Ev g P c ∧ F (tp_run g tp_s0 P) c := by
  constructor
  · rintro ⟨P, l, ok, f⟩
    obtain ⟨P', a1, a2, a3, a4, a5, a6⟩ := tp_simple hg hF P.length P (Nat.le_refl _) ok f
    exact ⟨P', ⟨by omega, a1, a5, hFf _ a6⟩, a6⟩
  · rintro ⟨P, v, f⟩
    exact ⟨P, v.1, v.2.2.1, f⟩
theorem tp_Acc_none {g : tp_Cf} (hg : ∀ x, g.1 x = true → x < 12) {ln st fo co : Nat → Int32} (A : tp_Acc g (tp_Ev g) ln st fo co) {c : Nat} (hc : c < 12) : ln c = 0 ↔ ¬ tp_Walk g (tp_fin g) c := by
  rw [tp_Ev_walk hg (tp_way_fin g) (fun _ h => h)]
  rcases (A c hc).1 with ⟨z1, z2⟩ | ⟨P, p1, p2, p3, _⟩
  · exact ⟨fun _ ⟨P, h, _⟩ => z2 P h, fun _ => z1⟩
  · constructor
    · intro z
      rw [p3] at z
      exact absurd z (nI_ne0 (by omega) (by omega))
    · intro z
      exact absurd ⟨P, p1, p1.2.2.2⟩ z
theorem tp_Acc_best {g : tp_Cf} (hg : ∀ x, g.1 x = true → x < 12) {ln st fo co : Nat → Int32} (A : tp_Acc g (tp_Ev g) ln st fo co) {c : Nat} (hc : c < 12) (h : tp_Walk g (tp_fin g) c) :
    ∃ P, tp_Best g c P ∧ ln c = nI (P.length + 1) ∧ (∀ (i x : Nat), (P ++ [c])[i]? = some x → st (6 * c + i) = nI x) := by
  rcases (A c hc).1 with ⟨z1, z2⟩ | ⟨P, p1, p2, p3, p4, p5, _⟩
  · exact absurd h ((tp_Acc_none hg A hc).mp z1)
  · refine ⟨P, ⟨p1.2.2.1, p2, p1.2.2.2, fun P' ok l f => ?_⟩, p3, p4⟩
    obtain ⟨P2, a1, a2, a3, a4, a5, a6⟩ := tp_simple hg (tp_way_fin g) P'.length P' (Nat.le_refl _) ok f
    have := p5 P2 ⟨by omega, a1, a5, a6⟩
    omega
theorem tp_Acc_found {g : tp_Cf} (hg : ∀ x, g.1 x = true → x < 12) {ln st fo co : Nat → Int32} (A : tp_Acc g (tp_Ev g) ln st fo co) {c : Nat} (hc : c < 12) {b : Nat} (hb : b < 32) :
    bt (fo c) b = true ↔ tp_Walk g (tp_finb g b) c := by
  rw [tp_Ev_walk hg (tp_way_finb g b) (fun _ h => h.1), (A c hc).2 b hb]
  constructor
  · rintro ⟨P, v, h⟩
    exact ⟨P, v, v.2.2.2, h⟩
  · rintro ⟨P, v, h⟩
    exact ⟨P, v, h.2⟩
theorem tp_Acc_common {g : tp_Cf} (hg : ∀ x, g.1 x = true → x < 12) {ln st fo co : Nat → Int32} (A : tp_Acc g (tp_Ev g) ln st fo co) {c : Nat} (hc : c < 12) (h : tp_Walk g (tp_fin g) c) {x : Nat} (hx : x < 12) (hxc : ¬ c = x) :
    bt (co c) x = true ↔ ¬ tp_Walk (tp_wo g x) (tp_fin (tp_wo g x)) c := by
  rcases (A c hc).1 with ⟨z1, z2⟩ | ⟨P, p1, p2, p3, p4, p5, p6⟩
  · exact absurd h ((tp_Acc_none hg A hc).mp z1)
  · rw [p6 x hx]
    constructor
    · rintro k ⟨P', l, ok, f⟩
      rw [tp_wo_ok] at ok
      rw [tp_wo_run, tp_wo_fin] at f
      obtain ⟨P2, a1, a2, a3, a4, a5, a6⟩ := tp_simple hg (tp_way_fin g) P'.length P' (Nat.le_refl _) ok.1 f.1
      exact ok.2 (a4 x (k P2 ⟨by omega, a1, a5, a6⟩))
    · intro k P' v
      by_cases hm : x ∈ P'
      · exact hm
      · exfalso
        apply k
        refine ⟨P', v.1, (tp_wo_ok g x P' _).mpr ⟨v.2.2.1, hm⟩, ?_⟩
        rw [tp_wo_run, tp_wo_fin]
        exact ⟨v.2.2.2, hxc⟩
theorem tp_wo_walk {g : tp_Cf} {x c : Nat} (h : tp_Walk (tp_wo g x) (tp_fin (tp_wo g x)) c) : tp_Walk g (tp_fin g) c := by
  obtain ⟨P, l, ok, f⟩ := h
  rw [tp_wo_ok] at ok
  rw [tp_wo_run, tp_wo_fin] at f
  exact ⟨P, l, ok.1, f.1⟩
end
section
/-! the component's questions at one certificate and one state -/
/-- the state that a number of a state stands for: -1 is the anchors -/
def tp_at (so on mc co : Nat → Int32) (s : Int32) (st : tp_S) : Prop :=
  (s = -1 ∧ st = tp_s0) ∨ (∃ (q b m : Nat), q < 1024 ∧ b < 12 ∧ m < 5 ∧ s = nI q ∧ so q = nI b ∧ mc q = nI m ∧ st = (some b, on q, m, co q))
def tp_Gd (n : Nat) (gd : Nat → Bool) (wo ti : Int32) (gf gt rv hd : Nat → Int32) : Prop :=
  ∀ c, c < n → (gd c = true ↔ (¬ nI c = wo ∧ hd c = 0 ∧ ¬ ti < gf c ∧ ¬ gt c < ti ∧ ¬ rv c ≤ ti))
theorem tp_mul5 (c : Nat) : (5 : Int32) * nI c = nI (5 * c) := pk_mul 5 c
theorem tp_mul5a (c k : Nat) : (5 : Int32) * nI c + nI k = nI (5 * c + k) := by rw [tp_mul5, nI_add]
theorem tp_neg1 : ¬ (0 : Int32) ≤ -1 := by decide
section
variable {f_count f_states f_rounds f_timeAt f_without f_pathLength : Int32} {a_issuerName a_issuerKey a_subjectName a_subjectKey a_goodFrom a_goodTo a_settings a_revokedFrom a_isHeld a_anchors a_stateOf a_openNames a_mayCome a_common a_before a_roundBegins a_path : Nat → Int32}
variable {gd : Nat → Bool} {c n : Nat} {s : Int32} {st : tp_S} {post : Int32 → Prop}
theorem tp_xGood (hc : c < 12) (hg : gd c = true ↔ (¬ nI c = f_without ∧ a_isHeld c = 0 ∧ ¬ f_timeAt < a_goodFrom c ∧ ¬ a_goodTo c < f_timeAt ∧ ¬ a_revokedFrom c ≤ f_timeAt))
    (h1 : gd c = true → post 1) (h0 : ¬ gd c = true → post 0) : wpX_isGood post (f_count, f_states, f_rounds, f_timeAt, f_without, f_pathLength, a_issuerName, a_issuerKey, a_subjectName, a_subjectKey, a_goodFrom, a_goodTo, a_settings, a_revokedFrom, a_isHeld, a_anchors, a_stateOf, a_openNames, a_mayCome, a_common, a_before, a_roundBegins, a_path) (nI c) := by
  have e : (nI c).toNatClampNeg = c := nI_clamp (by omega)
  have hi : vp_in (nI c) 12 := vp_in_nI hc (by omega)
  simp only [wpX_isGood, e]
  exact br_c (fun a1 => h0 (fun z => (hg.mp z).1 a1)) (fun a1 => ⟨hi, br_c (fun a2 => ⟨hi, br_c (fun a3 => h0 (fun z => (hg.mp z).2.2.1 a3)) (fun a3 => ⟨hi, br_c (fun a4 => h0 (fun z => (hg.mp z).2.2.2.1 a4)) (fun a4 => ⟨hi, br_c (fun a5 => h0 (fun z => (hg.mp z).2.2.2.2 a5)) (fun a5 => h1 (hg.mpr ⟨a1, a2, a3, a4, a5⟩))⟩)⟩)⟩) (fun a2 => h0 (fun z => a2 (hg.mp z).2.1))⟩)
theorem tp_xSelf (hc : c < 12) (h1 : a_issuerName c = a_subjectName c → post 1) (h0 : ¬ a_issuerName c = a_subjectName c → post 0) : wpX_isSelfIssued post (f_count, f_states, f_rounds, f_timeAt, f_without, f_pathLength, a_issuerName, a_issuerKey, a_subjectName, a_subjectKey, a_goodFrom, a_goodTo, a_settings, a_revokedFrom, a_isHeld, a_anchors, a_stateOf, a_openNames, a_mayCome, a_common, a_before, a_roundBegins, a_path) (nI c) := by
  have e : (nI c).toNatClampNeg = c := nI_clamp (by omega)
  have hi : vp_in (nI c) 12 := vp_in_nI hc (by omega)
  simp only [wpX_isSelfIssued, e]
  exact ⟨hi, hi, br_c h1 h0⟩
theorem tp_xAnch (hc : c < 12) (h1 : tp_fl (gd, a_issuerName, a_issuerKey, a_subjectName, a_subjectKey, a_settings, a_anchors) none c = true → post 1) (h0 : ¬ tp_fl (gd, a_issuerName, a_issuerKey, a_subjectName, a_subjectKey, a_settings, a_anchors) none c = true → post 0) : wpX_isAnchored post (f_count, f_states, f_rounds, f_timeAt, f_without, f_pathLength, a_issuerName, a_issuerKey, a_subjectName, a_subjectKey, a_goodFrom, a_goodTo, a_settings, a_revokedFrom, a_isHeld, a_anchors, a_stateOf, a_openNames, a_mayCome, a_common, a_before, a_roundBegins, a_path) (nI c) := by
  have e : (nI c).toNatClampNeg = c := nI_clamp (by omega)
  have hi : vp_in (nI c) 12 := vp_in_nI hc (by omega)
  have hf : tp_fl (gd, a_issuerName, a_issuerKey, a_subjectName, a_subjectKey, a_settings, a_anchors) none c = true ↔ (a_anchors 0 = (10 * a_issuerName c) + a_issuerKey c ∨ a_anchors 1 = (10 * a_issuerName c) + a_issuerKey c ∨ a_anchors 2 = (10 * a_issuerName c) + a_issuerKey c) := decide_eq_true_iff
  rw [hf] at h1 h0
  simp only [wpX_isAnchored, e]
  exact ⟨hi, hi, nm_e (br_c (fun a => h1 (Or.inl a)) (fun a => br_c (fun b => h1 (Or.inr (Or.inl b))) (fun b => br_c (fun d => h1 (Or.inr (Or.inr d))) (fun d => h0 (fun z => z.elim a (fun z => z.elim b d))))))⟩
theorem tp_xSigned (hc : c < 12) (ha : tp_at a_stateOf a_openNames a_mayCome a_common s st) (h1 : tp_fl (gd, a_issuerName, a_issuerKey, a_subjectName, a_subjectKey, a_settings, a_anchors) st.1 c = true → post 1) (h0 : ¬ tp_fl (gd, a_issuerName, a_issuerKey, a_subjectName, a_subjectKey, a_settings, a_anchors) st.1 c = true → post 0) : wpX_isSigned post (f_count, f_states, f_rounds, f_timeAt, f_without, f_pathLength, a_issuerName, a_issuerKey, a_subjectName, a_subjectKey, a_goodFrom, a_goodTo, a_settings, a_revokedFrom, a_isHeld, a_anchors, a_stateOf, a_openNames, a_mayCome, a_common, a_before, a_roundBegins, a_path) (nI c) s := by
  have e : (nI c).toNatClampNeg = c := nI_clamp (by omega)
  have hi : vp_in (nI c) 12 := vp_in_nI hc (by omega)
  rcases ha with ⟨rfl, rfl⟩ | ⟨q, b, m, hq, hb, hm, rfl, hso, hmc, rfl⟩
  · simp only [wpX_isSigned]
    exact br_f tp_neg1 (tp_xAnch (gd := gd) hc (fun a => ⟨narrow_b1, h1 a⟩) (fun a => ⟨narrow_b0, h0 a⟩))
  · have eq : (nI q).toNatClampNeg = q := nI_clamp (by omega)
    have eb : (nI b).toNatClampNeg = b := nI_clamp (by omega)
    have hb' : vp_in (nI b) 12 := vp_in_nI hb (by omega)
    have hf : tp_fl (gd, a_issuerName, a_issuerKey, a_subjectName, a_subjectKey, a_settings, a_anchors) (some b) c = true ↔ (a_issuerName c = a_subjectName b ∧ a_issuerKey c = a_subjectKey b) := decide_eq_true_iff
    rw [hf] at h1 h0
    simp only [wpX_isSigned, eq]
    refine br_t (nI_pos' (by omega)) ⟨vp_in_nI hq (by omega), nm_r hso ?_⟩
    simp only [e, eb]
    exact ⟨hi, hb', br_c (fun a => ⟨hi, hb', br_c (fun b => h1 ⟨a, b⟩) (fun b => h0 (fun z => b z.2))⟩) (fun a => h0 (fun z => a z.1))⟩
theorem tp_xOpenOf (ha : tp_at a_stateOf a_openNames a_mayCome a_common s st) (h : post st.2.1) : wpX_openOf post (f_count, f_states, f_rounds, f_timeAt, f_without, f_pathLength, a_issuerName, a_issuerKey, a_subjectName, a_subjectKey, a_goodFrom, a_goodTo, a_settings, a_revokedFrom, a_isHeld, a_anchors, a_stateOf, a_openNames, a_mayCome, a_common, a_before, a_roundBegins, a_path) s := by
  rcases ha with ⟨rfl, rfl⟩ | ⟨q, b, m, hq, hb, hm, rfl, hso, hmc, rfl⟩
  · simp only [wpX_openOf]
    exact br_f tp_neg1 h
  · have eq : (nI q).toNatClampNeg = q := nI_clamp (by omega)
    simp only [wpX_openOf, eq]
    exact br_t (nI_pos' (by omega)) ⟨vp_in_nI hq (by omega), h⟩
theorem tp_xCommonOf (ha : tp_at a_stateOf a_openNames a_mayCome a_common s st) (h : post st.2.2.2) : wpX_commonOf post (f_count, f_states, f_rounds, f_timeAt, f_without, f_pathLength, a_issuerName, a_issuerKey, a_subjectName, a_subjectKey, a_goodFrom, a_goodTo, a_settings, a_revokedFrom, a_isHeld, a_anchors, a_stateOf, a_openNames, a_mayCome, a_common, a_before, a_roundBegins, a_path) s := by
  rcases ha with ⟨rfl, rfl⟩ | ⟨q, b, m, hq, hb, hm, rfl, hso, hmc, rfl⟩
  · simp only [wpX_commonOf]
    exact br_f tp_neg1 h
  · have eq : (nI q).toNatClampNeg = q := nI_clamp (by omega)
    simp only [wpX_commonOf, eq]
    exact br_t (nI_pos' (by omega)) ⟨vp_in_nI hq (by omega), h⟩
theorem tp_xIsOpen (hc : c < 12) (ha : tp_at a_stateOf a_openNames a_mayCome a_common s st) (h1 : tp_opn a_subjectName st.2.1 c → post 1) (h0 : ¬ tp_opn a_subjectName st.2.1 c → post 0) : wpX_isOpen post (f_count, f_states, f_rounds, f_timeAt, f_without, f_pathLength, a_issuerName, a_issuerKey, a_subjectName, a_subjectKey, a_goodFrom, a_goodTo, a_settings, a_revokedFrom, a_isHeld, a_anchors, a_stateOf, a_openNames, a_mayCome, a_common, a_before, a_roundBegins, a_path) (nI c) s := by
  have e : (nI c).toNatClampNeg = c := nI_clamp (by omega)
  have hi : vp_in (nI c) 12 := vp_in_nI hc (by omega)
  simp only [wpX_isOpen, e]
  exact tp_xOpenOf ha ⟨hi, br_c h1 h0⟩
theorem tp_xEnds (hc : c < 12) (hg : gd c = true ↔ (¬ nI c = f_without ∧ a_isHeld c = 0 ∧ ¬ f_timeAt < a_goodFrom c ∧ ¬ a_goodTo c < f_timeAt ∧ ¬ a_revokedFrom c ≤ f_timeAt))
    (ha : tp_at a_stateOf a_openNames a_mayCome a_common s st) (h1 : tp_fin (gd, a_issuerName, a_issuerKey, a_subjectName, a_subjectKey, a_settings, a_anchors) st c → post 1) (h0 : ¬ tp_fin (gd, a_issuerName, a_issuerKey, a_subjectName, a_subjectKey, a_settings, a_anchors) st c → post 0) : wpX_endsWell post (f_count, f_states, f_rounds, f_timeAt, f_without, f_pathLength, a_issuerName, a_issuerKey, a_subjectName, a_subjectKey, a_goodFrom, a_goodTo, a_settings, a_revokedFrom, a_isHeld, a_anchors, a_stateOf, a_openNames, a_mayCome, a_common, a_before, a_roundBegins, a_path) (nI c) s := by
  have e4 : ((5 : Int32) * nI c + 4).toNatClampNeg = 5 * c + 4 := by rw [show (4 : Int32) = nI 4 from rfl, tp_mul5a]; exact nI_clamp (by omega)
  have i4 : vp_in ((5 : Int32) * nI c + 4) 60 := by rw [show (4 : Int32) = nI 4 from rfl, tp_mul5a]; exact vp_in_nI (by omega) (by omega)
  simp only [wpX_endsWell, e4]
  refine tp_xGood (gd := gd) hc hg (fun a => br_f (by decide) ?_) (fun a => br_t rfl (h0 (fun z => a z.1)))
  refine tp_xSigned (gd := gd) hc ha (fun b => br_f (by decide) ?_) (fun b => br_t rfl (h0 (fun z => b z.2.1)))
  refine tp_xIsOpen hc ha (fun d => br_f (by decide) ?_) (fun d => br_t rfl (h0 (fun z => d z.2.2.1)))
  exact tp_xCommonOf ha ⟨i4, br_c (fun y => h0 (fun z => z.2.2.2 y)) (fun y => h1 ⟨a, b, d, y⟩)⟩
end
end
section
/-! extend -/
def tp_Bt (so on mc co : Nat → Int32) (N k : Nat) : Prop := tp_sub (on N) (on k) ∧ tp_sub (co N) (co k) ∧ ¬ mc k < mc N ∧ so k = so N
section
variable {f_count f_states f_rounds f_timeAt f_without f_pathLength : Int32} {a_issuerName a_issuerKey a_subjectName a_subjectKey a_goodFrom a_goodTo a_settings a_revokedFrom a_isHeld a_anchors a_stateOf a_openNames a_mayCome a_common a_before a_roundBegins a_path : Nat → Int32}
variable {gd : Nat → Bool} {c N j : Nat} {s : Int32} {st : tp_S}
theorem tp_xB63 {post : Int32 → Prop} {J2 : Int32 → Prop} {z0 : Int32} (hN : N < 1024) (hj : j < 1024) (h1 : a_stateOf j = a_stateOf N → ¬ z0 = 0 → post 1) (h0 : ¬ (a_stateOf j = a_stateOf N ∧ ¬ z0 = 0) → J2 (nI (j + 1))) :
    wX_isBeaten_63 post J2 (nI N) (nI j) z0 f_count f_states f_rounds f_timeAt f_without f_pathLength a_issuerName a_issuerKey a_subjectName a_subjectKey a_goodFrom a_goodTo a_settings a_revokedFrom a_isHeld a_anchors a_stateOf a_openNames a_mayCome a_common a_before a_roundBegins a_path := by
  have eN : (nI N).toNatClampNeg = N := nI_clamp (by omega)
  have ej : (nI j).toNatClampNeg = j := nI_clamp (by omega)
  simp only [wX_isBeaten_63, eN, ej]
  exact ⟨vp_in_nI hj (by omega), vp_in_nI hN (by omega), br_c (fun a => br_c (fun b => nm_r (nI_1 j) (h0 (fun z => z.2 b))) (fun b => h1 a b)) (fun a => nm_r (nI_1 j) (h0 (fun z => a z.1)))⟩
theorem tp_xBeat2 {post : Int32 → Prop} (hN : N < 1024) (h1 : (∃ k, k < N ∧ tp_Bt a_stateOf a_openNames a_mayCome a_common N k) → post 1) (h0 : ¬ (∃ k, k < N ∧ tp_Bt a_stateOf a_openNames a_mayCome a_common N k) → post 0) :
    ∀ (f j : Nat), j ≤ N → N - j < f → (∀ k, k < j → ¬ tp_Bt a_stateOf a_openNames a_mayCome a_common N k) → wX_isBeaten_2 post (nI N) f_count f_states f_rounds f_timeAt f_without f_pathLength a_issuerName a_issuerKey a_subjectName a_subjectKey a_goodFrom a_goodTo a_settings a_revokedFrom a_isHeld a_anchors a_stateOf a_openNames a_mayCome a_common a_before a_roundBegins a_path f (nI j) := by
  intro f
  induction f with
  | zero => intro j _ h; omega
  | succ f ih =>
    intro j hj hf hk
    have eN : (nI N).toNatClampNeg = N := nI_clamp (by omega)
    have ej : (nI j).toNatClampNeg = j := nI_clamp (by omega)
    have iN : vp_in (nI N) 1024 := vp_in_nI hN (by omega)
    have ij : vp_in (nI j) 1024 := vp_in_nI (by omega) (by omega)
    simp only [wX_isBeaten_2, eN, ej]
    by_cases e : j = N
    · subst e
      exact br_t (nI_le (Nat.le_refl _) (by omega)) (h0 (fun ⟨k, z1, z2⟩ => hk k z1 z2))
    · have hjn : j < N := by omega
      have hj2 : j < 1024 := by omega
      have next : ¬ tp_Bt a_stateOf a_openNames a_mayCome a_common N j → wX_isBeaten_2 post (nI N) f_count f_states f_rounds f_timeAt f_without f_pathLength a_issuerName a_issuerKey a_subjectName a_subjectKey a_goodFrom a_goodTo a_settings a_revokedFrom a_isHeld a_anchors a_stateOf a_openNames a_mayCome a_common a_before a_roundBegins a_path f (nI (j + 1)) := fun z => ih (j + 1) (by omega) (by omega) (lt_s hk z)
      refine br_f (nI_ge hjn (by omega)) ⟨iN, ij, br_c (fun a => ⟨iN, ij, br_c (fun b => ⟨iN, ij, br_c (fun d => ?_) (fun d => ?_)⟩) (fun b => ?_)⟩) (fun a => ?_)⟩
      · exact tp_xB63 hN hj2 (fun _ z => absurd rfl z) (fun _ => next (fun z => z.2.2.1 d))
      · exact tp_xB63 hN hj2 (fun y _ => h1 ⟨j, hjn, a, b, d, y⟩) (fun y => next (fun z => y ⟨z.2.2.2, by decide⟩))
      · exact tp_xB63 hN hj2 (fun _ z => absurd rfl z) (fun _ => next (fun z => b z.2.1))
      · exact tp_xB63 hN hj2 (fun _ z => absurd rfl z) (fun _ => next (fun z => a z.1))
theorem tp_xBeat {post : Int32 → Prop} (hN : N < 1024) (h1 : (∃ k, k < N ∧ tp_Bt a_stateOf a_openNames a_mayCome a_common N k) → post 1) (h0 : ¬ (∃ k, k < N ∧ tp_Bt a_stateOf a_openNames a_mayCome a_common N k) → post 0) :
    wpX_isBeaten post (f_count, f_states, f_rounds, f_timeAt, f_without, f_pathLength, a_issuerName, a_issuerKey, a_subjectName, a_subjectKey, a_goodFrom, a_goodTo, a_settings, a_revokedFrom, a_isHeld, a_anchors, a_stateOf, a_openNames, a_mayCome, a_common, a_before, a_roundBegins, a_path) (nI N) := by
  simp only [wpX_isBeaten]
  exact ⟨N + 1, tp_xBeat2 hN h1 h0 (N + 1) 0 (Nat.zero_le _) (by omega) lt_0⟩
theorem tp_xExt207 {post : SX → Prop} {x5 z0 : Int32} (hN : N < 1024)
    (hb : (∃ k, k < N ∧ tp_Bt a_stateOf a_openNames (upd a_mayCome N z0) (upd a_common N x5) N k) → post (f_count, nI N, f_rounds, f_timeAt, f_without, f_pathLength, a_issuerName, a_issuerKey, a_subjectName, a_subjectKey, a_goodFrom, a_goodTo, a_settings, a_revokedFrom, a_isHeld, a_anchors, a_stateOf, a_openNames, upd a_mayCome N z0, upd a_common N x5, upd a_before N s, a_roundBegins, a_path))
    (hs : ¬ (∃ k, k < N ∧ tp_Bt a_stateOf a_openNames (upd a_mayCome N z0) (upd a_common N x5) N k) → post (f_count, nI (N + 1), f_rounds, f_timeAt, f_without, f_pathLength, a_issuerName, a_issuerKey, a_subjectName, a_subjectKey, a_goodFrom, a_goodTo, a_settings, a_revokedFrom, a_isHeld, a_anchors, a_stateOf, a_openNames, upd a_mayCome N z0, upd a_common N x5, upd a_before N s, a_roundBegins, a_path)) :
    wX_extend_207 post s x5 (nI N) z0 (nI N) f_count (nI N) f_rounds f_timeAt f_without f_pathLength a_issuerName a_issuerKey a_subjectName a_subjectKey a_goodFrom a_goodTo a_settings a_revokedFrom a_isHeld a_anchors a_stateOf a_openNames a_mayCome a_common a_before a_roundBegins a_path := by
  have eN : (nI N).toNatClampNeg = N := nI_clamp (by omega)
  have iN : vp_in (nI N) 1024 := vp_in_nI hN (by omega)
  simp only [wX_extend_207, eN]
  exact ⟨iN, nm_e ⟨iN, nm_e ⟨iN, nm_e (tp_xBeat hN (fun z => br_f (by decide) (hb z)) (fun z => br_t rfl (nm_r (nI_1 N) (hs z))))⟩⟩⟩
theorem tp_xExt110 {post : SX → Prop} {x5 : Int32} {cg lim : Nat} (hc : c < 12) (ha : tp_at a_stateOf a_openNames a_mayCome a_common s st) (hN : N < 1024) (hcg : cg < 5) (hlim : a_settings (5 * c + 1) = nI lim) (hl : lim < 5)
    (H : wX_extend_207 post s x5 (nI N) (nI (if cg ≤ lim then cg else lim)) (nI N) f_count (nI N) f_rounds f_timeAt f_without f_pathLength a_issuerName a_issuerKey a_subjectName a_subjectKey a_goodFrom a_goodTo a_settings a_revokedFrom a_isHeld a_anchors (upd a_stateOf N (nI c)) (upd a_openNames N ((st.2.1 &&& a_settings (5 * c + 2)) &&& (a_settings (5 * c + 3) ^^^ (-1)))) a_mayCome a_common a_before a_roundBegins a_path) :
    wX_extend_110 post (nI c) s x5 (nI cg) f_count (nI N) f_rounds f_timeAt f_without f_pathLength a_issuerName a_issuerKey a_subjectName a_subjectKey a_goodFrom a_goodTo a_settings a_revokedFrom a_isHeld a_anchors a_stateOf a_openNames a_mayCome a_common a_before a_roundBegins a_path := by
  have eN : (nI N).toNatClampNeg = N := nI_clamp (by omega)
  have iN : vp_in (nI N) 1024 := vp_in_nI hN (by omega)
  have e1 : ((5 : Int32) * nI c + 1).toNatClampNeg = 5 * c + 1 := by rw [show (1 : Int32) = nI 1 from rfl, tp_mul5a]; exact nI_clamp (by omega)
  have i1 : vp_in ((5 : Int32) * nI c + 1) 60 := by rw [show (1 : Int32) = nI 1 from rfl, tp_mul5a]; exact vp_in_nI (by omega) (by omega)
  have e2 : ((5 : Int32) * nI c + 2).toNatClampNeg = 5 * c + 2 := by rw [show (2 : Int32) = nI 2 from rfl, tp_mul5a]; exact nI_clamp (by omega)
  have i2 : vp_in ((5 : Int32) * nI c + 2) 60 := by rw [show (2 : Int32) = nI 2 from rfl, tp_mul5a]; exact vp_in_nI (by omega) (by omega)
  have e3 : ((5 : Int32) * nI c + 3).toNatClampNeg = 5 * c + 3 := by rw [show (3 : Int32) = nI 3 from rfl, tp_mul5a]; exact nI_clamp (by omega)
  have i3 : vp_in ((5 : Int32) * nI c + 3) 60 := by rw [show (3 : Int32) = nI 3 from rfl, tp_mul5a]; exact vp_in_nI (by omega) (by omega)
  simp only [wX_extend_110, eN, e1, e2, e3]
  refine ⟨i1, nm_r hlim (tp_xOpenOf ha ⟨i2, i3, nm_e (br_t (nI_lt (b := 1024) hN (by omega)) ⟨iN, nm_e ⟨iN, nm_e (pk_le cg lim (fun h => ?_) (fun h => ?_))⟩⟩)⟩)⟩
  · rw [if_pos h] at H
    exact H
  · rw [if_neg (by omega)] at H
    exact H
/-- what extend leaves: nothing, or a try that is beaten, or one more state -/
theorem tp_xExt14 {post : SX → Prop} {lim : Nat} (hc : c < 12) (hg : gd c = true ↔ (¬ nI c = f_without ∧ a_isHeld c = 0 ∧ ¬ f_timeAt < a_goodFrom c ∧ ¬ a_goodTo c < f_timeAt ∧ ¬ a_revokedFrom c ≤ f_timeAt))
    (ha : tp_at a_stateOf a_openNames a_mayCome a_common s st) (hm : st.2.2.1 < 5) (hN : N < 1024) (hlim : a_settings (5 * c + 1) = nI lim) (hl : lim < 5)
    (hno : ¬ tp_Ok (gd, a_issuerName, a_issuerKey, a_subjectName, a_subjectKey, a_settings, a_anchors) st c → post (f_count, nI N, f_rounds, f_timeAt, f_without, f_pathLength, a_issuerName, a_issuerKey, a_subjectName, a_subjectKey, a_goodFrom, a_goodTo, a_settings, a_revokedFrom, a_isHeld, a_anchors, a_stateOf, a_openNames, a_mayCome, a_common, a_before, a_roundBegins, a_path))
    (hok : tp_Ok (gd, a_issuerName, a_issuerKey, a_subjectName, a_subjectKey, a_settings, a_anchors) st c → wX_extend_207 post s (tp_nx (gd, a_issuerName, a_issuerKey, a_subjectName, a_subjectKey, a_settings, a_anchors) st c).2.2.2 (nI N) (nI (tp_nx (gd, a_issuerName, a_issuerKey, a_subjectName, a_subjectKey, a_settings, a_anchors) st c).2.2.1) (nI N) f_count (nI N) f_rounds f_timeAt f_without f_pathLength a_issuerName a_issuerKey a_subjectName a_subjectKey a_goodFrom a_goodTo a_settings a_revokedFrom a_isHeld a_anchors (upd a_stateOf N (nI c)) (upd a_openNames N (tp_nx (gd, a_issuerName, a_issuerKey, a_subjectName, a_subjectKey, a_settings, a_anchors) st c).2.1) a_mayCome a_common a_before a_roundBegins a_path) :
    wX_extend_14 post (nI c) s (nI st.2.2.1) f_count (nI N) f_rounds f_timeAt f_without f_pathLength a_issuerName a_issuerKey a_subjectName a_subjectKey a_goodFrom a_goodTo a_settings a_revokedFrom a_isHeld a_anchors a_stateOf a_openNames a_mayCome a_common a_before a_roundBegins a_path := by
  have e0 : ((5 : Int32) * nI c).toNatClampNeg = 5 * c := by rw [tp_mul5]; exact nI_clamp (by omega)
  have i0 : vp_in ((5 : Int32) * nI c) 60 := by rw [tp_mul5]; exact vp_in_nI (by omega) (by omega)
  have e4 : ((5 : Int32) * nI c + 4).toNatClampNeg = 5 * c + 4 := by rw [show (4 : Int32) = nI 4 from rfl, tp_mul5a]; exact nI_clamp (by omega)
  have i4 : vp_in ((5 : Int32) * nI c + 4) 60 := by rw [show (4 : Int32) = nI 4 from rfl, tp_mul5a]; exact vp_in_nI (by omega) (by omega)
  have hL : tp_lim a_settings c = lim := by unfold tp_lim; rw [hlim]; exact nI_clamp (by omega)
  have hcgl := tp_cg_le (gd, a_issuerName, a_issuerKey, a_subjectName, a_subjectKey, a_settings, a_anchors) st c
  have go : tp_Ok (gd, a_issuerName, a_issuerKey, a_subjectName, a_subjectKey, a_settings, a_anchors) st c → wX_extend_110 post (nI c) s (st.2.2.2 &&& a_settings (5 * c + 4)) (nI (tp_cg (gd, a_issuerName, a_issuerKey, a_subjectName, a_subjectKey, a_settings, a_anchors) st c)) f_count (nI N) f_rounds f_timeAt f_without f_pathLength a_issuerName a_issuerKey a_subjectName a_subjectKey a_goodFrom a_goodTo a_settings a_revokedFrom a_isHeld a_anchors a_stateOf a_openNames a_mayCome a_common a_before a_roundBegins a_path := by
    intro k
    refine tp_xExt110 hc ha hN (by omega) hlim hl ?_
    rw [← hL]
    exact hok k
  simp only [wX_extend_14, e0, e4]
  refine tp_xSelf hc (fun a => ?_) (fun a => ?_)
  · have ecg : tp_cg (gd, a_issuerName, a_issuerKey, a_subjectName, a_subjectKey, a_settings, a_anchors) st c = st.2.2.1 := if_pos (Or.inl a)
    rw [ecg] at go
    refine tp_xCommonOf ha ⟨i4, nm_e ⟨i0, br_c (fun y => hno (fun z => z.2.2.1 y)) (fun b0 => tp_xGood (gd := gd) hc hg (fun b1 => br_f (by decide) (tp_xSigned (gd := gd) hc ha (fun b2 => br_f (by decide) (br_c (fun y => hno (fun z => z.2.2.2.1 y)) (fun b3 => br_f (by decide) ?_))) (fun y => br_t rfl (hno (fun z => y z.2.1))))) (fun y => br_t rfl (hno (fun z => y z.1))))⟩⟩
    simp only [wX_extend_93, wX_extend_103]
    exact br_f (by decide) (go ⟨b1, b2, b0, b3, fun z => absurd a z⟩)
  · refine tp_xCommonOf ha ⟨i4, nm_e ⟨i0, br_c (fun y => hno (fun z => z.2.2.1 y)) (fun b0 => tp_xGood (gd := gd) hc hg (fun b1 => br_f (by decide) (tp_xSigned (gd := gd) hc ha (fun b2 => br_f (by decide) (br_c (fun y => hno (fun z => z.2.2.2.1 y)) (fun b3 => br_t rfl ?_))) (fun y => br_t rfl (hno (fun z => y z.2.1))))) (fun y => br_t rfl (hno (fun z => y z.1))))⟩⟩
    refine pk_eq st.2.2.1 0 (fun y => hno (fun z => (z.2.2.2.2 a).1 y)) (fun b4 => tp_xIsOpen hc ha (fun b5 => br_f (by decide) ?_) (fun y => br_t rfl (hno (fun z => y (z.2.2.2.2 a).2))))
    have k : tp_Ok (gd, a_issuerName, a_issuerKey, a_subjectName, a_subjectKey, a_settings, a_anchors) st c := ⟨b1, b2, b0, b3, fun _ => ⟨b4, b5⟩⟩
    simp only [wX_extend_93, wX_extend_103]
    refine br_t (by trivial) (pk_eq st.2.2.1 4 (fun e => ?_) (fun e => ?_))
    · have ecg : tp_cg (gd, a_issuerName, a_issuerKey, a_subjectName, a_subjectKey, a_settings, a_anchors) st c = st.2.2.1 := if_pos (Or.inr e)
      rw [ecg] at go
      exact go k
    · have ecg : tp_cg (gd, a_issuerName, a_issuerKey, a_subjectName, a_subjectKey, a_settings, a_anchors) st c = st.2.2.1 - 1 := if_neg (fun z => z.elim a e)
      have e1 : nI st.2.2.1 - 1 = nI (st.2.2.1 - 1) := by
        obtain ⟨w, hw⟩ : ∃ w, st.2.2.1 = w + 1 := ⟨st.2.2.1 - 1, by omega⟩
        rw [hw, nI_pred]
        rfl
      rw [ecg] at go
      rw [e1]
      exact go k
theorem tp_xExt {post : SX → Prop} {lim : Nat} (hc : c < 12) (hg : gd c = true ↔ (¬ nI c = f_without ∧ a_isHeld c = 0 ∧ ¬ f_timeAt < a_goodFrom c ∧ ¬ a_goodTo c < f_timeAt ∧ ¬ a_revokedFrom c ≤ f_timeAt))
    (ha : tp_at a_stateOf a_openNames a_mayCome a_common s st) (hN : N < 1024) (hlim : a_settings (5 * c + 1) = nI lim) (hl : lim < 5)
    (hno : ¬ tp_Ok (gd, a_issuerName, a_issuerKey, a_subjectName, a_subjectKey, a_settings, a_anchors) st c → post (f_count, nI N, f_rounds, f_timeAt, f_without, f_pathLength, a_issuerName, a_issuerKey, a_subjectName, a_subjectKey, a_goodFrom, a_goodTo, a_settings, a_revokedFrom, a_isHeld, a_anchors, a_stateOf, a_openNames, a_mayCome, a_common, a_before, a_roundBegins, a_path))
    (hb : tp_Ok (gd, a_issuerName, a_issuerKey, a_subjectName, a_subjectKey, a_settings, a_anchors) st c → (∃ k, k < N ∧ tp_Bt (upd a_stateOf N (nI c)) (upd a_openNames N (tp_nx (gd, a_issuerName, a_issuerKey, a_subjectName, a_subjectKey, a_settings, a_anchors) st c).2.1) (upd a_mayCome N (nI (tp_nx (gd, a_issuerName, a_issuerKey, a_subjectName, a_subjectKey, a_settings, a_anchors) st c).2.2.1)) (upd a_common N (tp_nx (gd, a_issuerName, a_issuerKey, a_subjectName, a_subjectKey, a_settings, a_anchors) st c).2.2.2) N k) →
      post (f_count, nI N, f_rounds, f_timeAt, f_without, f_pathLength, a_issuerName, a_issuerKey, a_subjectName, a_subjectKey, a_goodFrom, a_goodTo, a_settings, a_revokedFrom, a_isHeld, a_anchors, upd a_stateOf N (nI c), upd a_openNames N (tp_nx (gd, a_issuerName, a_issuerKey, a_subjectName, a_subjectKey, a_settings, a_anchors) st c).2.1, upd a_mayCome N (nI (tp_nx (gd, a_issuerName, a_issuerKey, a_subjectName, a_subjectKey, a_settings, a_anchors) st c).2.2.1), upd a_common N (tp_nx (gd, a_issuerName, a_issuerKey, a_subjectName, a_subjectKey, a_settings, a_anchors) st c).2.2.2, upd a_before N s, a_roundBegins, a_path))
    (hs : tp_Ok (gd, a_issuerName, a_issuerKey, a_subjectName, a_subjectKey, a_settings, a_anchors) st c → ¬ (∃ k, k < N ∧ tp_Bt (upd a_stateOf N (nI c)) (upd a_openNames N (tp_nx (gd, a_issuerName, a_issuerKey, a_subjectName, a_subjectKey, a_settings, a_anchors) st c).2.1) (upd a_mayCome N (nI (tp_nx (gd, a_issuerName, a_issuerKey, a_subjectName, a_subjectKey, a_settings, a_anchors) st c).2.2.1)) (upd a_common N (tp_nx (gd, a_issuerName, a_issuerKey, a_subjectName, a_subjectKey, a_settings, a_anchors) st c).2.2.2) N k) →
      post (f_count, nI (N + 1), f_rounds, f_timeAt, f_without, f_pathLength, a_issuerName, a_issuerKey, a_subjectName, a_subjectKey, a_goodFrom, a_goodTo, a_settings, a_revokedFrom, a_isHeld, a_anchors, upd a_stateOf N (nI c), upd a_openNames N (tp_nx (gd, a_issuerName, a_issuerKey, a_subjectName, a_subjectKey, a_settings, a_anchors) st c).2.1, upd a_mayCome N (nI (tp_nx (gd, a_issuerName, a_issuerKey, a_subjectName, a_subjectKey, a_settings, a_anchors) st c).2.2.1), upd a_common N (tp_nx (gd, a_issuerName, a_issuerKey, a_subjectName, a_subjectKey, a_settings, a_anchors) st c).2.2.2, upd a_before N s, a_roundBegins, a_path)) :
    wpX_extend post (f_count, nI N, f_rounds, f_timeAt, f_without, f_pathLength, a_issuerName, a_issuerKey, a_subjectName, a_subjectKey, a_goodFrom, a_goodTo, a_settings, a_revokedFrom, a_isHeld, a_anchors, a_stateOf, a_openNames, a_mayCome, a_common, a_before, a_roundBegins, a_path) (nI c) s := by
  have h14 : st.2.2.1 < 5 → wX_extend_14 post (nI c) s (nI st.2.2.1) f_count (nI N) f_rounds f_timeAt f_without f_pathLength a_issuerName a_issuerKey a_subjectName a_subjectKey a_goodFrom a_goodTo a_settings a_revokedFrom a_isHeld a_anchors a_stateOf a_openNames a_mayCome a_common a_before a_roundBegins a_path := fun hm =>
    tp_xExt14 hc hg ha hm hN hlim hl hno (fun k => tp_xExt207 hN (hb k) (hs k))
  rcases ha with ⟨rfl, rfl⟩ | ⟨q, b, m, hq, hb, hm, rfl, hso, hmc, rfl⟩
  · simp only [wpX_extend]
    exact br_f tp_neg1 (h14 (by decide))
  · have eq : (nI q).toNatClampNeg = q := nI_clamp (by omega)
    simp only [wpX_extend, eq, hmc]
    exact br_t (nI_pos' (by omega)) ⟨vp_in_nI hq (by omega), h14 hm⟩
end
end
section
/-! findStates -/
def tp_sI : Nat → Int32
  | 0 => -1
  | q + 1 => nI q
def tp_Tab (g : tp_Cf) (Q : List (List Nat)) (so on mc co be : Nat → Int32) : Prop :=
  ∀ (q : Nat) (P : List Nat), Q[q + 1]? = some P → ∃ (b m : Nat), tp_run g tp_s0 P = (some b, on q, m, co q) ∧ b < 12 ∧ m < 5 ∧ so q = nI b ∧ mc q = nI m ∧ ∃ (p : Nat) (R : List Nat), p ≤ q ∧ Q[p]? = some R ∧ P = R ++ [b] ∧ be q = tp_sI p
theorem tp_Tab_at {g : tp_Cf} {Q : List (List Nat)} {so on mc co be : Nat → Int32} (T : tp_Tab g Q so on mc co be) (h0 : Q[0]? = some []) (hl : Q.length ≤ 1024) {q : Nat} {P : List Nat} (h : Q[q]? = some P) :
    tp_at so on mc co (tp_sI q) (tp_run g tp_s0 P) := by
  cases q with
  | zero =>
    rw [h0] at h
    cases h
    exact Or.inl ⟨rfl, rfl⟩
  | succ q =>
    obtain ⟨b, m, a1, a2, a3, a4, a5, _⟩ := T q P h
    have := tp_get_lt h
    exact Or.inr ⟨q, b, m, by omega, a2, a3, rfl, a4, a5, a1⟩
theorem tp_may_lt (g : tp_Cf) (P : List Nat) : (tp_run g tp_s0 P).2.2.1 < 5 := by
  have := (tp_run_wle g P tp_s0).2.2
  have e : tp_s0.2.2.1 = 4 := rfl
  omega
theorem tp_Tab_keep {g : tp_Cf} {Q : List (List Nat)} {so on mc co be so' on' mc' co' be' : Nat → Int32} {N : Nat} (T : tp_Tab g Q so on mc co be) (hl : Q.length = N + 1)
    (h : ∀ k, k < N → so' k = so k ∧ on' k = on k ∧ mc' k = mc k ∧ co' k = co k ∧ be' k = be k) : tp_Tab g Q so' on' mc' co' be' := by
  intro q P hq
  have := tp_get_lt hq
  obtain ⟨h1, h2, h3, h4, h5⟩ := h q (by omega)
  rw [h1, h2, h3, h4, h5]
  exact T q P hq
theorem tp_Tab_add {g : tp_Cf} {Q : List (List Nat)} {so on mc co be : Nat → Int32} {N q0 c : Nat} {R : List Nat} (T : tp_Tab g Q so on mc co be) (hl : Q.length = N + 1) (hR : Q[q0]? = some R) (hc : c < 12) :
    tp_Tab g (Q ++ [R ++ [c]]) (upd so N (nI c)) (upd on N (tp_nx g (tp_run g tp_s0 R) c).2.1) (upd mc N (nI (tp_nx g (tp_run g tp_s0 R) c).2.2.1)) (upd co N (tp_nx g (tp_run g tp_s0 R) c).2.2.2) (upd be N (tp_sI q0)) := by
  intro q P hq
  rcases tp_app_get hq with z | ⟨z1, z2⟩
  · have := tp_get_lt z
    obtain ⟨b, m, a1, a2, a3, a4, a5, p, R', a6, a7, a8, a9⟩ := T q P z
    have ne : q ≠ N := by omega
    rw [pk_un ne, pk_un ne, pk_un ne, pk_un ne, pk_un ne]
    exact ⟨b, m, a1, a2, a3, a4, a5, p, R', a6, tp_app_l a7, a8, a9⟩
  · have e : q = N := by omega
    subst e
    have hm := tp_may_lt g (R ++ [c])
    rw [tp_run_snoc] at hm
    have := tp_get_lt hR
    refine ⟨c, (tp_nx g (tp_run g tp_s0 R) c).2.2.1, ?_, hc, hm, pk_us, pk_us, q0, R, by omega, tp_app_l hR, z2, pk_us⟩
    rw [z2, tp_run_snoc, pk_us, pk_us]
    rfl
theorem tp_Bt_dom {g : tp_Cf} {Q : List (List Nat)} {so on mc co be : Nat → Int32} {N c : Nat} {t : tp_S} (T : tp_Tab g Q so on mc co be) (hl : Q.length = N + 1) (hc : c < 12) (ht : t.1 = some c) (hm : t.2.2.1 < 5) :
    (∃ k, k < N ∧ tp_Bt (upd so N (nI c)) (upd on N t.2.1) (upd mc N (nI t.2.2.1)) (upd co N t.2.2.2) N k) ↔ ∃ (k : Nat) (K : List Nat), Q[k]? = some K ∧ 0 < k ∧ tp_dom t (tp_run g tp_s0 K) := by
  constructor
  · rintro ⟨k, hk, b1, b2, b3, b4⟩
    have ne : k ≠ N := by omega
    rw [pk_us, pk_un ne] at b1 b2 b3 b4
    obtain ⟨K, hK⟩ : ∃ K, Q[k + 1]? = some K := ⟨Q[k + 1]'(by omega), List.getElem?_eq_getElem (by omega)⟩
    obtain ⟨b, m, a1, a2, a3, a4, a5, _⟩ := T k K hK
    refine ⟨k + 1, K, hK, by omega, ?_⟩
    rw [a1]
    rw [a4, nI_eq (by omega) (by omega)] at b4
    rw [a5, nI_ltI (by omega) (by omega)] at b3
    refine ⟨by rw [ht, b4], b1, b2, ?_⟩
    show t.2.2.1 ≤ m
    omega
  · rintro ⟨k, K, hK, h0, d1, d2, d3, d4⟩
    obtain ⟨k, rfl⟩ : ∃ k', k = k' + 1 := ⟨k - 1, by omega⟩
    have := tp_get_lt hK
    obtain ⟨b, m, a1, a2, a3, a4, a5, _⟩ := T k K hK
    rw [a1] at d1 d2 d3 d4
    have d4' : t.2.2.1 ≤ m := d4
    have ne : k ≠ N := by omega
    refine ⟨k, by omega, ?_⟩
    unfold tp_Bt
    rw [pk_us, pk_us, pk_us, pk_us, pk_un ne, pk_un ne, pk_un ne, pk_un ne]
    refine ⟨d2, d3, ?_, ?_⟩
    · rw [a5, nI_ltI (by omega) (by omega)]
      omega
    · have e : some c = some b := by rw [← ht]; exact d1
      rw [a4, Option.some.inj e]
theorem tp_Inv_z {g : tp_Cf} {n : Nat} {Q : List (List Nat)} {q0 q1 : Nat} (hz : ∀ x, ¬ g.1 x = true) (h : q0 ≤ q1) (I : tp_Inv g n Q q0 0) : tp_Inv g n Q q1 0 := by
  refine ⟨I.1, I.2.1, ?_, I.2.2.2.1, ?_⟩
  · intro q P hq h0
    obtain ⟨p, T, c, a1, a2, a3, a4⟩ := I.2.2.1 q P hq h0
    refine ⟨p, T, c, a1, a2, a3, Or.inl ?_⟩
    rcases a4 with z | z <;> omega
  · intro p T c hT pr ok
    exact absurd ok.1 (hz c)
section
variable {f_count f_states f_rounds f_timeAt f_without f_pathLength : Int32} {a_issuerName a_issuerKey a_subjectName a_subjectKey a_goodFrom a_goodTo a_settings a_revokedFrom a_isHeld a_anchors : Nat → Int32}
variable {gd : Nat → Bool} {n : Nat}
/-- one extend: the table grows by at most one path, of one certificate more -/
theorem tp_xStep {f_rounds f_pathLength : Int32} {a_stateOf a_openNames a_mayCome a_common a_before a_roundBegins a_path : Nat → Int32} {post : SX → Prop} {Q : List (List Nat)} {q0 c0 N : Nat} {R : List Nat} (hn : n ≤ 12) (hgn : ∀ x, gd x = true → x < n) (hG : tp_Gd n gd f_without f_timeAt a_goodFrom a_goodTo a_revokedFrom a_isHeld)
    (hL : ∀ c, c < n → ∃ lim, lim < 5 ∧ a_settings (5 * c + 1) = nI lim) (I : tp_Inv (gd, a_issuerName, a_issuerKey, a_subjectName, a_subjectKey, a_settings, a_anchors) n Q q0 c0) (T : tp_Tab (gd, a_issuerName, a_issuerKey, a_subjectName, a_subjectKey, a_settings, a_anchors) Q a_stateOf a_openNames a_mayCome a_common a_before) (hR : Q[q0]? = some R) (hc : c0 < n) (hl : Q.length = N + 1)
    (h : ∀ (Q' : List (List Nat)) (N' : Nat) (so on mc co be : Nat → Int32), tp_Inv (gd, a_issuerName, a_issuerKey, a_subjectName, a_subjectKey, a_settings, a_anchors) n Q' q0 (c0 + 1) → tp_Tab (gd, a_issuerName, a_issuerKey, a_subjectName, a_subjectKey, a_settings, a_anchors) Q' so on mc co be → Q'.length = N' + 1 → (∀ (q : Nat) (P : List Nat), Q[q]? = some P → Q'[q]? = some P) → (∀ (q : Nat) (P : List Nat), Q'[q]? = some P → Q[q]? = some P ∨ (N + 1 ≤ q ∧ P.length = R.length + 1)) →
      post (f_count, nI N', f_rounds, f_timeAt, f_without, f_pathLength, a_issuerName, a_issuerKey, a_subjectName, a_subjectKey, a_goodFrom, a_goodTo, a_settings, a_revokedFrom, a_isHeld, a_anchors, so, on, mc, co, be, a_roundBegins, a_path)) :
    wpX_extend post (f_count, nI N, f_rounds, f_timeAt, f_without, f_pathLength, a_issuerName, a_issuerKey, a_subjectName, a_subjectKey, a_goodFrom, a_goodTo, a_settings, a_revokedFrom, a_isHeld, a_anchors, a_stateOf, a_openNames, a_mayCome, a_common, a_before, a_roundBegins, a_path) (nI c0) (tp_sI q0) := by
  have hQ : Q.length ≤ 148 := tp_Inv_len hn I
  obtain ⟨lim, hl1, hl2⟩ := hL c0 hc
  have at0 := tp_Tab_at T I.1 (by omega) hR
  have hm := tp_may_lt (gd, a_issuerName, a_issuerKey, a_subjectName, a_subjectKey, a_settings, a_anchors) (R ++ [c0])
  rw [tp_run_snoc] at hm
  have B := tp_Bt_dom (t := tp_nx (gd, a_issuerName, a_issuerKey, a_subjectName, a_subjectKey, a_settings, a_anchors) (tp_run (gd, a_issuerName, a_issuerKey, a_subjectName, a_subjectKey, a_settings, a_anchors) tp_s0 R) c0) T hl (by omega : c0 < 12) rfl hm
  refine tp_xExt (gd := gd) (by omega) (hG c0 hc) at0 (by omega) hl2 hl1 ?_ ?_ ?_
  · intro no
    exact h Q N _ _ _ _ _ (tp_Inv_skip I hR (fun z => absurd z no) hn) T hl (fun _ _ z => z) (fun _ _ z => Or.inl z)
  · intro ok bt
    refine h Q N _ _ _ _ _ (tp_Inv_skip I hR (fun _ => B.mp bt) hn) (tp_Tab_keep T hl ?_) hl (fun _ _ z => z) (fun _ _ z => Or.inl z)
    intro k hk
    have ne : k ≠ N := by omega
    exact ⟨pk_un ne, pk_un ne, pk_un ne, pk_un ne, pk_un ne⟩
  · intro ok nb
    refine h (Q ++ [R ++ [c0]]) (N + 1) _ _ _ _ _ (tp_Inv_store hn hgn I hR ok (fun z => nb (B.mpr z))) (tp_Tab_add T hl hR (by omega)) ?_ (fun _ _ z => tp_app_l z) ?_
    · simp
      omega
    · intro q P z
      rcases tp_app_get z with y | ⟨y1, y2⟩
      · exact Or.inl y
      · refine Or.inr ⟨by omega, ?_⟩
        rw [y2, tp_len_snoc]
/-- the lengths of the table's paths while the paths of r certificates come -/
def tp_Len (Q : List (List Nat)) (b e r : Nat) : Prop :=
  ∀ (q : Nat) (P : List Nat), Q[q]? = some P → (q < b → P.length + 2 ≤ r) ∧ (b ≤ q → q < e → P.length + 1 = r) ∧ (e ≤ q → P.length = r)
theorem tp_Len_more {Q Q' : List (List Nat)} {b e r N : Nat} {R : List Nat} (h : tp_Len Q b e r) (hb : b ≤ e) (he : e ≤ N + 1) (hR : R.length + 1 = r) (hn : ∀ (q : Nat) (P : List Nat), Q'[q]? = some P → Q[q]? = some P ∨ (N + 1 ≤ q ∧ P.length = R.length + 1)) : tp_Len Q' b e r := by
  intro q P hq
  rcases hn q P hq with z | ⟨z1, z2⟩
  · exact h q P z
  · exact ⟨fun y => by omega, fun _ y => by omega, fun _ => by omega⟩
theorem tp_xF94 {post : SX → Prop} {J61 : Int32 → Int32 → Int32 → Int32 → Int32 → Int32 → Int32 → (Nat → Int32) → (Nat → Int32) → (Nat → Int32) → (Nat → Int32) → (Nat → Int32) → (Nat → Int32) → (Nat → Int32) → (Nat → Int32) → (Nat → Int32) → (Nat → Int32) → (Nat → Int32) → (Nat → Int32) → (Nat → Int32) → (Nat → Int32) → (Nat → Int32) → (Nat → Int32) → (Nat → Int32) → Prop} {x3 : Int32} {b e r : Nat} (hn : n ≤ 12) (hgn : ∀ x, gd x = true → x < n) (hG : tp_Gd n gd f_without f_timeAt a_goodFrom a_goodTo a_revokedFrom a_isHeld)
    (hL : ∀ c, c < n → ∃ lim, lim < 5 ∧ a_settings (5 * c + 1) = nI lim) (hbe : b ≤ e) (he : e < 148) (hr : r < 6) (hr2 : 2 ≤ r) {rb : Nat → Int32} {pa : Nat → Int32}
    (h : ∀ (Q : List (List Nat)) (N : Nat) (so on mc co be : Nat → Int32), tp_Inv (gd, a_issuerName, a_issuerKey, a_subjectName, a_subjectKey, a_settings, a_anchors) n Q (e + 1) 0 → tp_Tab (gd, a_issuerName, a_issuerKey, a_subjectName, a_subjectKey, a_settings, a_anchors) Q so on mc co be → Q.length = N + 1 → e ≤ N → tp_Len Q (b + 1) (e + 1) r →
      J61 (x3 + 1) (nI n) (nI N) (nI r) f_timeAt f_without f_pathLength a_issuerName a_issuerKey a_subjectName a_subjectKey a_goodFrom a_goodTo a_settings a_revokedFrom a_isHeld a_anchors so on mc co be (upd rb r (nI N)) pa) :
    ∀ (f k : Nat) (Q : List (List Nat)) (N : Nat) (so on mc co be : Nat → Int32), k ≤ (e - b) * n → (e - b) * n - k < f → tp_Inv (gd, a_issuerName, a_issuerKey, a_subjectName, a_subjectKey, a_settings, a_anchors) n Q (b + 1 + k / n) (k % n) → tp_Tab (gd, a_issuerName, a_issuerKey, a_subjectName, a_subjectKey, a_settings, a_anchors) Q so on mc co be → Q.length = N + 1 → e ≤ N → tp_Len Q (b + 1) (e + 1) r →
      wX_findStates_94 post J61 x3 (nI b) (nI e) f (nI k) (nI n) (nI N) (nI (r - 1)) f_timeAt f_without f_pathLength a_issuerName a_issuerKey a_subjectName a_subjectKey a_goodFrom a_goodTo a_settings a_revokedFrom a_isHeld a_anchors so on mc co be rb pa := by
  have hsz : (e - b) * n ≤ 148 * 12 := Nat.mul_le_mul (by omega) hn
  have em : (nI e - nI b) * nI n = nI ((e - b) * n) := by rw [pk_sub hbe, pk_mul]
  intro f
  induction f with
  | zero => intro k _ _ _ _ _ _ _ _ hf; omega
  | succ f ih =>
    intro k Q N so on mc co be hk hf I T hl heN hlen
    simp only [wX_findStates_94, em]
    by_cases ek : k = (e - b) * n
    · have I2 : tp_Inv (gd, a_issuerName, a_issuerKey, a_subjectName, a_subjectKey, a_settings, a_anchors) n Q (e + 1) 0 := by
        rcases Nat.eq_zero_or_pos n with z | hn0
        · have k0 : k = 0 := by rw [ek, z, Nat.mul_zero]
          have hz : ∀ x, ¬ gd x = true := fun x y => by have := hgn x y; omega
          rw [k0, Nat.zero_div, Nat.zero_mod] at I
          exact tp_Inv_z (g := (gd, a_issuerName, a_issuerKey, a_subjectName, a_subjectKey, a_settings, a_anchors)) hz (by omega) I
        · have e1 : k / n = e - b := by rw [ek]; exact Nat.mul_div_cancel _ hn0
          have e2 : k % n = 0 := by rw [ek]; exact Nat.mul_mod_left _ _
          have e3 : b + 1 + (e - b) = e + 1 := by omega
          rw [e1, e2, e3] at I
          exact I
      have e4 : nI (r - 1) + 1 = nI r := by rw [nI_1]; exact congrArg nI (by omega)
      have e5 : (nI r).toNatClampNeg = r := nI_clamp (by omega)
      refine br_t (nI_le (by omega) (by omega)) (nm_r e4 ⟨vp_in_nI (by omega) (by omega), ?_⟩)
      rw [e5]
      exact nm_e (nm_e (h Q N so on mc co be I2 T hl heN hlen))
    · have hk' : k < (e - b) * n := by omega
      have hn0 : 0 < n := by
        rcases Nat.eq_zero_or_pos n with z | z
        · rw [z, Nat.mul_zero] at hk'
          omega
        · exact z
      have hq : k / n < e - b := Nat.div_lt_of_lt_mul (by rw [Nat.mul_comm]; exact hk')
      have hm : k % n < n := Nat.mod_lt _ hn0
      have hkd : k / n ≤ k := Nat.div_le_self _ _
      have r1 : nI k - nI k / nI n * nI n = nI (k % n) := pk_rem (by omega) hn0 (by omega)
      have r2 : nI b + nI k / nI n = nI (b + k / n) := by rw [pk_div (by omega) hn0 (by omega), nI_add]
      have hcn : ¬ nI n = 0 := nI_ne0 hn0 (by omega)
      obtain ⟨R, hR⟩ : ∃ R, Q[b + 1 + k / n]? = some R := ⟨Q[b + 1 + k / n]'(by omega), List.getElem?_eq_getElem (by omega)⟩
      have hRl : R.length + 1 = r := ((hlen _ R hR).2.1) (Nat.le_add_right _ _) (by omega)
      have sI : tp_sI (b + 1 + k / n) = nI (b + k / n) := by
        rw [show b + 1 + k / n = (b + k / n) + 1 from by omega]
        rfl
      rw [r1, r2, ← sI]
      refine br_f (nI_ge hk' (by omega)) ⟨hcn, hcn, ?_⟩
      refine tp_xStep (gd := gd) hn hgn hG hL I T hR hm hl ?_
      intro Q' N' so' on' mc' co' be' I' T' hl' hmono hnew
      have hN' : e ≤ N' := by
        have := tp_get_lt (hmono N (Q[N]'(by omega)) (List.getElem?_eq_getElem (by omega)))
        omega
      refine nm_r (nI_1 k) (ih (k + 1) Q' N' so' on' mc' co' be' (by omega) (by omega) ?_ T' hl' hN' (tp_Len_more hlen (by omega) (by omega) hRl hnew))
      by_cases hw : k % n + 1 = n
      · have d1 : (k + 1) / n = k / n + 1 := by
          have := Nat.div_add_mod k n
          have e9 : k + 1 = n * (k / n + 1) := by rw [Nat.mul_add]; omega
          rw [e9, Nat.mul_div_cancel_left _ hn0]
        have d2 : (k + 1) % n = 0 := by
          have := Nat.div_add_mod k n
          have e9 : k + 1 = n * (k / n + 1) := by rw [Nat.mul_add]; omega
          rw [e9, Nat.mul_mod_right]
        rw [d1, d2]
        rw [hw] at I'
        exact tp_Inv_roll hgn I'
      · have d0 := Nat.div_add_mod k n
        have d1 : (k + 1) / n = k / n := by
          have e9 : k + 1 = n * (k / n) + (k % n + 1) := by omega
          have e10 : (k % n + 1) / n = 0 := Nat.div_eq_of_lt (by omega)
          rw [e9, Nat.mul_add_div hn0, e10, Nat.add_zero]
        have d2 : (k + 1) % n = k % n + 1 := by
          have e9 : k + 1 = n * (k / n) + (k % n + 1) := by omega
          rw [e9, Nat.mul_add_mod, Nat.mod_eq_of_lt (by omega)]
        rw [d1, d2]
        exact I'
theorem tp_xF61 {post : SX → Prop} (hn : n ≤ 12) (hgn : ∀ x, gd x = true → x < n) (hG : tp_Gd n gd f_without f_timeAt a_goodFrom a_goodTo a_revokedFrom a_isHeld)
    (hL : ∀ c, c < n → ∃ lim, lim < 5 ∧ a_settings (5 * c + 1) = nI lim) {pa : Nat → Int32}
    (h : ∀ (Q : List (List Nat)) (N : Nat) (so on mc co be : Nat → Int32) (rd : Int32) (rb : Nat → Int32), tp_Fnd (gd, a_issuerName, a_issuerKey, a_subjectName, a_subjectKey, a_settings, a_anchors) n Q → tp_Tab (gd, a_issuerName, a_issuerKey, a_subjectName, a_subjectKey, a_settings, a_anchors) Q so on mc co be → Q.length = N + 1 →
      post (nI n, nI N, rd, f_timeAt, f_without, f_pathLength, a_issuerName, a_issuerKey, a_subjectName, a_subjectKey, a_goodFrom, a_goodTo, a_settings, a_revokedFrom, a_isHeld, a_anchors, so, on, mc, co, be, rb, pa)) :
    ∀ (f r b : Nat) (Q : List (List Nat)) (N : Nat) (so on mc co be rb : Nat → Int32), 2 ≤ r → r ≤ 6 → 6 - r < f → rb (r - 2) = nI b → rb (r - 1) = nI N → b ≤ N → tp_Inv (gd, a_issuerName, a_issuerKey, a_subjectName, a_subjectKey, a_settings, a_anchors) n Q (b + 1) 0 → tp_Tab (gd, a_issuerName, a_issuerKey, a_subjectName, a_subjectKey, a_settings, a_anchors) Q so on mc co be → Q.length = N + 1 → tp_Len Q (b + 1) (N + 1) r →
      wX_findStates_61 post f (nI r) (nI n) (nI N) (nI (r - 1)) f_timeAt f_without f_pathLength a_issuerName a_issuerKey a_subjectName a_subjectKey a_goodFrom a_goodTo a_settings a_revokedFrom a_isHeld a_anchors so on mc co be rb pa := by
  intro f
  induction f with
  | zero => intro r b _ _ _ _ _ _ _ _ _ _ hf; omega
  | succ f ih =>
    intro r b Q N so on mc co be rb h2 h6 hf hb hN hbN I T hl hlen
    have hQ : Q.length ≤ 148 := tp_Inv_len hn I
    have e1 : nI (r - 1) - 1 = nI (r - 2) := by
      rw [show r - 1 = (r - 2) + 1 from by omega, nI_pred]
    have e2 : (nI (r - 2)).toNatClampNeg = r - 2 := nI_clamp (by omega)
    have e3 : (nI (r - 1)).toNatClampNeg = r - 1 := nI_clamp (by omega)
    simp only [wX_findStates_61, e1, e2, e3]
    by_cases er : r = 6
    · subst er
      refine br_t (by decide) (h Q N so on mc co be _ rb (tp_full hn hgn I ?_ ?_) T hl)
      · intro q P hq
        have := hlen q P hq
        have := tp_get_lt hq
        rcases Nat.lt_or_ge q (b + 1) with z | z
        · have := this; omega
        · omega
      · intro q P hq h4
        have h3 := hlen q P hq
        have := tp_get_lt hq
        rcases Nat.lt_or_ge q (b + 1) with z | z
        · exact z
        · have := h3.2.1 z (by omega)
          omega
    · refine br_f (nI_ge (b := 6) (by omega) (by omega)) ⟨vp_in_nI (by omega) (by omega), nm_r hb ⟨vp_in_nI (by omega) (by omega), nm_r hN ?_⟩⟩
      · refine ⟨(N - b) * n + 1, tp_xF94 (gd := gd) hn hgn hG hL hbN (by omega) (by omega) h2 ?_ _ 0 Q N so on mc co be (Nat.zero_le _) (by omega) ?_ T hl (Nat.le_refl _) hlen⟩
        · intro Q' N' so' on' mc' co' be' I' T' hl' hNN hlen'
          rw [nI_1]
          have e9 : nI r = nI (r + 1 - 1) := rfl
          rw [e9]
          refine ih (r + 1) N Q' N' so' on' mc' co' be' _ (by omega) (by omega) (by omega) ?_ ?_ hNN I' T' hl' ?_
          · rw [pk_un (by omega)]
            exact hN
          · rw [show r + 1 - 1 = r from rfl]
            exact pk_us
          · intro q P hq
            have h3 := hlen' q P hq
            have := tp_get_lt hq
            refine ⟨fun y => ?_, fun y1 y2 => ?_, fun y => ?_⟩
            · rcases Nat.lt_or_ge q (b + 1) with w | w
              · have := h3.1 w
                omega
              · have := h3.2.1 w y
                omega
            · have := h3.2.2 y1
              omega
            · omega
        · rw [Nat.zero_div, Nat.zero_mod]
          exact I
theorem tp_xF24 {post : SX → Prop} (hn : n ≤ 12) (hgn : ∀ x, gd x = true → x < n) (hG : tp_Gd n gd f_without f_timeAt a_goodFrom a_goodTo a_revokedFrom a_isHeld)
    (hL : ∀ c, c < n → ∃ lim, lim < 5 ∧ a_settings (5 * c + 1) = nI lim) {pa : Nat → Int32}
    (h : ∀ (Q : List (List Nat)) (N : Nat) (so on mc co be : Nat → Int32) (rd : Int32) (rb : Nat → Int32), tp_Fnd (gd, a_issuerName, a_issuerKey, a_subjectName, a_subjectKey, a_settings, a_anchors) n Q → tp_Tab (gd, a_issuerName, a_issuerKey, a_subjectName, a_subjectKey, a_settings, a_anchors) Q so on mc co be → Q.length = N + 1 →
      post (nI n, nI N, rd, f_timeAt, f_without, f_pathLength, a_issuerName, a_issuerKey, a_subjectName, a_subjectKey, a_goodFrom, a_goodTo, a_settings, a_revokedFrom, a_isHeld, a_anchors, so, on, mc, co, be, rb, pa)) {rb : Nat → Int32} (hrb : rb 0 = nI 0) :
    ∀ (f c : Nat) (Q : List (List Nat)) (N : Nat) (so on mc co be : Nat → Int32), c ≤ n → n - c < f → tp_Inv (gd, a_issuerName, a_issuerKey, a_subjectName, a_subjectKey, a_settings, a_anchors) n Q 0 c → tp_Tab (gd, a_issuerName, a_issuerKey, a_subjectName, a_subjectKey, a_settings, a_anchors) Q so on mc co be → Q.length = N + 1 → tp_Len Q 0 1 1 →
      wX_findStates_24 post f (nI c) (nI n) (nI N) f_rounds f_timeAt f_without f_pathLength a_issuerName a_issuerKey a_subjectName a_subjectKey a_goodFrom a_goodTo a_settings a_revokedFrom a_isHeld a_anchors so on mc co be rb pa := by
  intro f
  induction f with
  | zero => intro c _ _ _ _ _ _ _ _ hf; omega
  | succ f ih =>
    intro c Q N so on mc co be hc hf I T hl hlen
    simp only [wX_findStates_24]
    by_cases e : c = n
    · subst e
      refine br_t (nI_le (Nat.le_refl _) (by omega)) (nm_e ⟨5, ?_⟩)
      refine tp_xF61 (gd := gd) hn hgn hG hL h 5 2 0 Q N so on mc co be _ (by omega) (by omega) (by omega) ?_ ?_ (Nat.zero_le _) (tp_Inv_roll hgn I) T hl ?_
      · rw [pk_un (by decide)]
        exact hrb
      · exact pk_us
      · intro q P hq
        have h3 := hlen q P hq
        have := tp_get_lt hq
        refine ⟨fun y => ?_, fun y1 y2 => ?_, fun y => ?_⟩
        · have := h3.2.1 (by omega) (by omega)
          omega
        · have := h3.2.2 y1
          omega
        · omega
    · have hR : Q[0]? = some [] := I.1
      refine br_f (nI_ge (by omega) (by omega)) ?_
      refine tp_xStep (gd := gd) (q0 := 0) hn hgn hG hL I T hR (by omega) hl ?_
      intro Q' N' so' on' mc' co' be' I' T' hl' hmono hnew
      exact nm_r (nI_1 c) (ih (c + 1) Q' N' so' on' mc' co' be' (by omega) (by omega) I' T' hl' (tp_Len_more hlen (by omega) (by omega) rfl hnew))
end
section
variable {f_count f_states f_rounds f_timeAt f_without f_pathLength : Int32} {a_issuerName a_issuerKey a_subjectName a_subjectKey a_goodFrom a_goodTo a_settings a_revokedFrom a_isHeld a_anchors a_stateOf a_openNames a_mayCome a_common a_before a_roundBegins a_path : Nat → Int32}
variable {gd : Nat → Bool} {n : Nat}
theorem tp_xFind {post : SX → Prop} {ti wo : Int32} (hn : n ≤ 12) (hgn : ∀ x, gd x = true → x < n) (hG : tp_Gd n gd wo ti a_goodFrom a_goodTo a_revokedFrom a_isHeld)
    (hL : ∀ c, c < n → ∃ lim, lim < 5 ∧ a_settings (5 * c + 1) = nI lim)
    (h : ∀ (Q : List (List Nat)) (N : Nat) (so on mc co be : Nat → Int32) (rd : Int32) (rb : Nat → Int32), tp_Fnd (gd, a_issuerName, a_issuerKey, a_subjectName, a_subjectKey, a_settings, a_anchors) n Q → tp_Tab (gd, a_issuerName, a_issuerKey, a_subjectName, a_subjectKey, a_settings, a_anchors) Q so on mc co be → Q.length = N + 1 →
      post (nI n, nI N, rd, ti, wo, f_pathLength, a_issuerName, a_issuerKey, a_subjectName, a_subjectKey, a_goodFrom, a_goodTo, a_settings, a_revokedFrom, a_isHeld, a_anchors, so, on, mc, co, be, rb, a_path)) :
    wpX_findStates post (nI n, f_states, f_rounds, f_timeAt, f_without, f_pathLength, a_issuerName, a_issuerKey, a_subjectName, a_subjectKey, a_goodFrom, a_goodTo, a_settings, a_revokedFrom, a_isHeld, a_anchors, a_stateOf, a_openNames, a_mayCome, a_common, a_before, a_roundBegins, a_path) ti wo := by
  simp only [wpX_findStates]
  refine nm_e ⟨n + 1, ?_⟩
  refine tp_xF24 (gd := gd) hn hgn hG hL h (rb := upd a_roundBegins 0 0) pk_us (n + 1) 0 [[]] 0 a_stateOf a_openNames a_mayCome a_common a_before (Nat.zero_le _) (by omega) (tp_Inv_0 _ n) ?_ rfl ?_
  · intro q P hq
    simp at hq
  · intro q P hq
    have hq0 := tp_get_lt hq
    have : q = 0 := by
      simp at hq0
      exact hq0
    subst this
    have e : P = [] := (Option.some.inj hq).symm
    subst e
    exact ⟨fun y => by omega, fun _ _ => rfl, fun y => by omega⟩
end
end
section
/-! the component's answers over a finished table -/
def tp_cnt (p : Nat → Bool) : Nat → Nat
  | 0 => 0
  | k + 1 => tp_cnt p k + (if p k = true then 1 else 0)
theorem tp_cnt_le (p : Nat → Bool) : ∀ k, tp_cnt p k ≤ k := by
  intro k
  induction k with
  | zero => exact Nat.le_refl _
  | succ k ih =>
    show tp_cnt p k + (if p k = true then 1 else 0) ≤ k + 1
    split <;> omega
theorem tp_cnt_eq {p q : Nat → Bool} : ∀ k, (∀ i, i < k → p i = q i) → tp_cnt p k = tp_cnt q k := by
  intro k
  induction k with
  | zero => intro _; rfl
  | succ k ih =>
    intro h
    show tp_cnt p k + (if p k = true then 1 else 0) = tp_cnt q k + (if q k = true then 1 else 0)
    rw [ih (fun i hi => h i (by omega)), h k (by omega)]
theorem tp_cnt_far {p : Nat → Bool} {n : Nat} (h : ∀ i, n ≤ i → p i = false) : ∀ d, tp_cnt p (n + d) = tp_cnt p n := by
  intro d
  induction d with
  | zero => rfl
  | succ d ih =>
    show tp_cnt p (n + d) + (if p (n + d) = true then 1 else 0) = tp_cnt p n
    rw [ih, h (n + d) (by omega)]
    rfl
theorem tp_cnt_sub {p q : Nat → Bool} : ∀ k, (∀ i, i < k → q i = true → p i = true) → tp_cnt (fun i => p i && !q i) k + tp_cnt q k = tp_cnt p k := by
  intro k
  induction k with
  | zero => intro _; rfl
  | succ k ih =>
    intro h
    have e := ih (fun i hi => h i (by omega))
    have hk := h k (by omega)
    show tp_cnt (fun i => p i && !q i) k + (if (p k && !q k) = true then 1 else 0) + (tp_cnt q k + (if q k = true then 1 else 0)) = tp_cnt p k + (if p k = true then 1 else 0)
    revert hk
    cases p k <;> cases q k <;> simp <;> omega
theorem tp_and1z (y : Int32) : y &&& 1 = nI (if bt y 0 = true then 1 else 0) := by
  by_cases h : bt y 0 = true
  · rw [if_pos h]
    exact (tp_and1 y).mpr h
  · rw [if_neg h]
    apply b_ext
    intro i hi
    rw [b_and, tp_b1 i hi]
    by_cases h0 : i = 0
    · subst h0
      rw [Bool.not_eq_true] at h
      rw [h]
      decide
    · simp [h0]
      exact b_0 i
theorem tp_xOnes4 {post : Int32 → Prop} {x : Int32} (h : post (nI (tp_cnt (bt x) 12))) : ∀ f k, k ≤ 12 → 12 - k < f → wX_ones_4 post x f (nI (tp_cnt (bt x) k)) (nI k) := by
  intro f
  induction f with
  | zero => intro k _ hf; omega
  | succ f ih =>
    intro k hk hf
    simp only [wX_ones_4]
    by_cases e : k = 12
    · subst e
      exact br_t (by decide) h
    · refine br_f (nI_ge (b := 12) (by omega) (by omega)) (nm_r (e' := nI (tp_cnt (bt x) (k + 1))) ?_ (nm_r (nI_1 k) (ih (k + 1) (by omega) (by omega))))
      rw [tp_and1z, b_sshr k (by omega) x (by omega : 0 < 32), Nat.add_zero, if_pos (by omega : k < 32), nI_add]
      rfl
theorem tp_xOnes {post : Int32 → Prop} {x : Int32} (h : post (nI (tp_cnt (bt x) 12))) : wpX_ones post x := by
  simp only [wpX_ones]
  exact ⟨13, tp_xOnes4 h 13 0 (by omega) (by omega)⟩
theorem tp_15 : ∀ a, a < 16 → (15 : Int32) &&& nI a = nI a := by decide +kernel
theorem tp_get_mid (R V : List Nat) (b : Nat) : (R ++ b :: V)[R.length]? = some b := by
  rw [List.getElem?_append_right (Nat.le_refl _), Nat.sub_self]
  rfl
theorem tp_bt0r (x : Int32) (b : Nat) : bt (x ||| 0) b = bt x b := by rw [b_or, b_0, Bool.or_false]
section
variable {f_count f_states f_rounds f_timeAt f_without f_pathLength : Int32} {a_issuerName a_issuerKey a_subjectName a_subjectKey a_goodFrom a_goodTo a_settings a_revokedFrom a_isHeld a_anchors a_stateOf a_openNames a_mayCome a_common a_before a_roundBegins a_path : Nat → Int32}
variable {gd : Nat → Bool} {n N c : Nat} {Q : List (List Nat)}
theorem tp_xFirst13 {post : Int32 → Prop} (hn : n ≤ 12) (hG : tp_Gd n gd f_without f_timeAt a_goodFrom a_goodTo a_revokedFrom a_isHeld) (hF : tp_Fnd (gd, a_issuerName, a_issuerKey, a_subjectName, a_subjectKey, a_settings, a_anchors) n Q) (T : tp_Tab (gd, a_issuerName, a_issuerKey, a_subjectName, a_subjectKey, a_settings, a_anchors) Q a_stateOf a_openNames a_mayCome a_common a_before) (hl : Q.length = N + 1) (hc : c < n)
    (h1 : ∀ (q : Nat) (P : List Nat), Q[q]? = some P → tp_fin (gd, a_issuerName, a_issuerKey, a_subjectName, a_subjectKey, a_settings, a_anchors) (tp_run (gd, a_issuerName, a_issuerKey, a_subjectName, a_subjectKey, a_settings, a_anchors) tp_s0 P) c → (∀ (q' : Nat) (P' : List Nat), q' < q → Q[q']? = some P' → ¬ tp_fin (gd, a_issuerName, a_issuerKey, a_subjectName, a_subjectKey, a_settings, a_anchors) (tp_run (gd, a_issuerName, a_issuerKey, a_subjectName, a_subjectKey, a_settings, a_anchors) tp_s0 P') c) → post (tp_sI q))
    (h0 : (∀ (q : Nat) (P : List Nat), Q[q]? = some P → ¬ tp_fin (gd, a_issuerName, a_issuerKey, a_subjectName, a_subjectKey, a_settings, a_anchors) (tp_run (gd, a_issuerName, a_issuerKey, a_subjectName, a_subjectKey, a_settings, a_anchors) tp_s0 P) c) → post (-2)) :
    ∀ (f j : Nat), j ≤ N → N - j < f → (∀ (q : Nat) (P : List Nat), q < j + 1 → Q[q]? = some P → ¬ tp_fin (gd, a_issuerName, a_issuerKey, a_subjectName, a_subjectKey, a_settings, a_anchors) (tp_run (gd, a_issuerName, a_issuerKey, a_subjectName, a_subjectKey, a_settings, a_anchors) tp_s0 P) c) → wX_firstFor_13 post (nI c) f_count (nI N) f_rounds f_timeAt f_without f_pathLength a_issuerName a_issuerKey a_subjectName a_subjectKey a_goodFrom a_goodTo a_settings a_revokedFrom a_isHeld a_anchors a_stateOf a_openNames a_mayCome a_common a_before a_roundBegins a_path f (nI j) := by
  have hQ : Q.length ≤ 148 := hF.2.1
  intro f
  induction f with
  | zero => intro j _ hf; omega
  | succ f ih =>
    intro j hj hf hk
    simp only [wX_firstFor_13]
    by_cases e : j = N
    · subst e
      refine br_t (nI_le (Nat.le_refl _) (by omega)) (h0 (fun q P hq => hk q P ?_ hq))
      have := tp_get_lt hq
      omega
    · obtain ⟨P, hP⟩ : ∃ P, Q[j + 1]? = some P := ⟨Q[j + 1]'(by omega), List.getElem?_eq_getElem (by omega)⟩
      have at0 := tp_Tab_at T hF.1 (by omega) hP
      refine br_f (nI_ge (by omega) (by omega)) (tp_xEnds (gd := gd) (by omega) (hG c hc) at0 (fun a => br_f (by decide) ?_) (fun a => br_t rfl (nm_r (nI_1 j) (ih (j + 1) (by omega) (by omega) ?_))))
      · exact h1 (j + 1) P hP a (fun q' P' hq' hP' => hk q' P' hq' hP')
      · intro q P' hq hP'
        by_cases z : q = j + 1
        · subst z
          rw [hP] at hP'
          cases hP'
          exact a
        · exact hk q P' (by omega) hP'
theorem tp_xFirst {post : Int32 → Prop} (hn : n ≤ 12) (hG : tp_Gd n gd f_without f_timeAt a_goodFrom a_goodTo a_revokedFrom a_isHeld) (hF : tp_Fnd (gd, a_issuerName, a_issuerKey, a_subjectName, a_subjectKey, a_settings, a_anchors) n Q) (T : tp_Tab (gd, a_issuerName, a_issuerKey, a_subjectName, a_subjectKey, a_settings, a_anchors) Q a_stateOf a_openNames a_mayCome a_common a_before) (hl : Q.length = N + 1) (hc : c < n)
    (h1 : ∀ (q : Nat) (P : List Nat), Q[q]? = some P → tp_fin (gd, a_issuerName, a_issuerKey, a_subjectName, a_subjectKey, a_settings, a_anchors) (tp_run (gd, a_issuerName, a_issuerKey, a_subjectName, a_subjectKey, a_settings, a_anchors) tp_s0 P) c → (∀ (q' : Nat) (P' : List Nat), q' < q → Q[q']? = some P' → ¬ tp_fin (gd, a_issuerName, a_issuerKey, a_subjectName, a_subjectKey, a_settings, a_anchors) (tp_run (gd, a_issuerName, a_issuerKey, a_subjectName, a_subjectKey, a_settings, a_anchors) tp_s0 P') c) → post (tp_sI q))
    (h0 : (∀ (q : Nat) (P : List Nat), Q[q]? = some P → ¬ tp_fin (gd, a_issuerName, a_issuerKey, a_subjectName, a_subjectKey, a_settings, a_anchors) (tp_run (gd, a_issuerName, a_issuerKey, a_subjectName, a_subjectKey, a_settings, a_anchors) tp_s0 P) c) → post (-2)) :
    wpX_firstFor post (f_count, nI N, f_rounds, f_timeAt, f_without, f_pathLength, a_issuerName, a_issuerKey, a_subjectName, a_subjectKey, a_goodFrom, a_goodTo, a_settings, a_revokedFrom, a_isHeld, a_anchors, a_stateOf, a_openNames, a_mayCome, a_common, a_before, a_roundBegins, a_path) (nI c) := by
  have hQ : Q.length ≤ 148 := hF.2.1
  have at0 := tp_Tab_at T hF.1 (by omega) hF.1
  simp only [wpX_firstFor]
  refine tp_xEnds (gd := gd) (by omega) (hG c hc) at0 (fun a => br_f (by decide) ?_) (fun a => br_t rfl ⟨N + 1, ?_⟩)
  · exact h1 0 [] hF.1 a (fun q' _ hq' => absurd hq' (Nat.not_lt_zero _))
  · refine tp_xFirst13 (gd := gd) hn hG hF T hl hc h1 h0 (N + 1) 0 (Nat.zero_le _) (by omega) ?_
    intro q P hq hP
    have z : q = 0 := by omega
    subst z
    rw [hF.1] at hP
    cases hP
    exact a
/-- firstFor by walks: trusted or not -/
theorem tp_xFirstW {post : Int32 → Prop} (hn : n ≤ 12) (hG : tp_Gd n gd f_without f_timeAt a_goodFrom a_goodTo a_revokedFrom a_isHeld) (hF : tp_Fnd (gd, a_issuerName, a_issuerKey, a_subjectName, a_subjectKey, a_settings, a_anchors) n Q) (T : tp_Tab (gd, a_issuerName, a_issuerKey, a_subjectName, a_subjectKey, a_settings, a_anchors) Q a_stateOf a_openNames a_mayCome a_common a_before) (hl : Q.length = N + 1) (hc : c < n)
    (h1 : ∀ r, ¬ r = -2 → tp_Walk (gd, a_issuerName, a_issuerKey, a_subjectName, a_subjectKey, a_settings, a_anchors) (tp_fin (gd, a_issuerName, a_issuerKey, a_subjectName, a_subjectKey, a_settings, a_anchors)) c → post r) (h0 : ¬ tp_Walk (gd, a_issuerName, a_issuerKey, a_subjectName, a_subjectKey, a_settings, a_anchors) (tp_fin (gd, a_issuerName, a_issuerKey, a_subjectName, a_subjectKey, a_settings, a_anchors)) c → post (-2)) :
    wpX_firstFor post (f_count, nI N, f_rounds, f_timeAt, f_without, f_pathLength, a_issuerName, a_issuerKey, a_subjectName, a_subjectKey, a_goodFrom, a_goodTo, a_settings, a_revokedFrom, a_isHeld, a_anchors, a_stateOf, a_openNames, a_mayCome, a_common, a_before, a_roundBegins, a_path) (nI c) := by
  have hQ : Q.length ≤ 148 := hF.2.1
  refine tp_xFirst (gd := gd) hn hG hF T hl hc ?_ ?_
  · intro q P hq f _
    refine h1 _ ?_ ((tp_Fnd_walk hF (tp_way_fin _) c).mpr ⟨q, P, hq, f⟩)
    cases q with
    | zero => decide
    | succ q =>
      have := tp_get_lt hq
      intro z
      have hp : ¬ nI q < 0 := nI_pos (by omega)
      have z2 : nI q = -2 := z
      rw [z2] at hp
      exact hp (by decide)
  · intro hz
    refine h0 (fun w => ?_)
    obtain ⟨q, P, hq, f⟩ := (tp_Fnd_walk hF (tp_way_fin _) c).mp w
    exact hz q P hq f
theorem tp_Tab_nil {g : tp_Cf} {so on mc co be : Nat → Int32} (T : tp_Tab g Q so on mc co be) {q : Nat} (h : Q[q]? = some []) : q = 0 := by
  cases q with
  | zero => rfl
  | succ q =>
    obtain ⟨b, m, _, _, _, _, _, p, R, _, _, e, _⟩ := T q [] h
    simp at e
theorem tp_xPath62 {post : Int32 → SX → Prop} {P : List Nat} (hF : tp_Fnd (gd, a_issuerName, a_issuerKey, a_subjectName, a_subjectKey, a_settings, a_anchors) n Q) (T : tp_Tab (gd, a_issuerName, a_issuerKey, a_subjectName, a_subjectKey, a_settings, a_anchors) Q a_stateOf a_openNames a_mayCome a_common a_before) (hP : P.length ≤ 5)
    (h : ∀ pa : Nat → Int32, (∀ (i x : Nat), (P ++ [c])[i]? = some x → pa i = nI x) → post 1 (f_count, f_states, f_rounds, f_timeAt, f_without, f_pathLength, a_issuerName, a_issuerKey, a_subjectName, a_subjectKey, a_goodFrom, a_goodTo, a_settings, a_revokedFrom, a_isHeld, a_anchors, a_stateOf, a_openNames, a_mayCome, a_common, a_before, a_roundBegins, pa)) :
    ∀ (m f q' : Nat) (P' U : List Nat) (pa : Nat → Int32), m < f → Q[q']? = some P' → P'.length = m → P = P' ++ U → (∀ (i x : Nat), m ≤ i → (P ++ [c])[i]? = some x → pa i = nI x) →
      wX_findPath_62 post f_count f_states f_rounds f_timeAt f_without f_pathLength f (nI m) (tp_sI q') a_issuerName a_issuerKey a_subjectName a_subjectKey a_goodFrom a_goodTo a_settings a_revokedFrom a_isHeld a_anchors a_stateOf a_openNames a_mayCome a_common a_before a_roundBegins pa := by
  have hQ : Q.length ≤ 148 := hF.2.1
  intro m
  induction m with
  | zero =>
    intro f q' P' U pa hf hq hm e hp
    obtain ⟨f, rfl⟩ : ∃ f', f = f' + 1 := ⟨f - 1, by omega⟩
    have eP : P' = [] := List.length_eq_zero_iff.mp hm
    rw [eP] at hq
    have e0 := tp_Tab_nil T hq
    subst e0
    simp only [wX_findPath_62]
    exact br_t (by decide) (h pa (fun i x hx => hp i x (Nat.zero_le _) hx))
  | succ m ih =>
    intro f q' P' U pa hf hq hm e hp
    obtain ⟨f, rfl⟩ : ∃ f', f = f' + 1 := ⟨f - 1, by omega⟩
    cases q' with
    | zero =>
      rw [hF.1] at hq
      cases hq
      simp at hm
    | succ k =>
      have hk := tp_get_lt hq
      obtain ⟨b, mm, a1, a2, a3, a4, a5, p, R, a6, a7, a8, a9⟩ := T k P' hq
      have hRm : R.length = m := by
        rw [a8, tp_len_snoc] at hm
        omega
      have hm5 : m + 1 ≤ P.length := by
        rw [e, List.length_append, hm]
        omega
      have ek : (nI k).toNatClampNeg = k := nI_clamp (by omega)
      have em : (nI m).toNatClampNeg = m := nI_clamp (by omega)
      have ik : vp_in (nI k) 1024 := vp_in_nI (by omega) (by omega)
      have im : vp_in (nI m) 6 := vp_in_nI (by omega) (by omega)
      have s1 : tp_sI (k + 1) = nI k := rfl
      rw [s1]
      simp only [wX_findPath_62, ek]
      refine br_f (nI_pos (by omega)) (nm_r (pk_m1 m) ⟨ik, im, ?_⟩)
      rw [em, a4]
      refine nm_e ⟨ik, nm_r a9 (ih f p R ([b] ++ U) _ (by omega) a7 hRm (by rw [e, a8, List.append_assoc]) ?_)⟩
      intro i x hi hx
      by_cases z : i = m
      · subst z
        rw [pk_us]
        have e2 : P ++ [c] = R ++ b :: (U ++ [c]) := by rw [e, a8]; simp
        rw [e2, ← hRm, tp_get_mid] at hx
        rw [Option.some.inj hx]
      · rw [pk_un z]
        exact hp i x (by omega) hx
theorem tp_xPath21 {post : Int32 → SX → Prop} {P : List Nat} {q : Nat} (hF : tp_Fnd (gd, a_issuerName, a_issuerKey, a_subjectName, a_subjectKey, a_settings, a_anchors) n Q) (T : tp_Tab (gd, a_issuerName, a_issuerKey, a_subjectName, a_subjectKey, a_settings, a_anchors) Q a_stateOf a_openNames a_mayCome a_common a_before) (hq : Q[q]? = some P) (hP : P.length ≤ 5)
    (h : ∀ pa : Nat → Int32, (∀ (i x : Nat), (P ++ [c])[i]? = some x → pa i = nI x) → post 1 (f_count, f_states, f_rounds, f_timeAt, f_without, nI (P.length + 1), a_issuerName, a_issuerKey, a_subjectName, a_subjectKey, a_goodFrom, a_goodTo, a_settings, a_revokedFrom, a_isHeld, a_anchors, a_stateOf, a_openNames, a_mayCome, a_common, a_before, a_roundBegins, pa)) :
    ∀ (m f q' : Nat) (P' : List Nat) (L : Nat), m < f → Q[q']? = some P' → P'.length = m → L + m = P.length + 1 →
      wX_findPath_21 post (nI c) (tp_sI q) f_count f_states f_rounds f_timeAt f_without a_issuerName a_issuerKey a_subjectName a_subjectKey a_goodFrom a_goodTo a_settings a_revokedFrom a_isHeld a_anchors a_stateOf a_openNames a_mayCome a_common a_before a_roundBegins a_path f (tp_sI q') (nI L) := by
  have hQ : Q.length ≤ 148 := hF.2.1
  intro m
  induction m with
  | zero =>
    intro f q' P' L hf hq' hm hL
    obtain ⟨f, rfl⟩ : ∃ f', f = f' + 1 := ⟨f - 1, by omega⟩
    have eP : P' = [] := List.length_eq_zero_iff.mp hm
    rw [eP] at hq'
    have e0 := tp_Tab_nil T hq'
    subst e0
    have eL : L = P.length + 1 := by omega
    subst eL
    have el : (nI P.length).toNatClampNeg = P.length := nI_clamp (by omega)
    simp only [wX_findPath_21]
    refine br_t (by decide) (nm_r (nI_pred P.length) ⟨vp_in_nI (by omega) (by omega), ?_⟩)
    rw [el]
    refine nm_e ⟨P.length + 1, tp_xPath62 (gd := gd) hF T hP h P.length (P.length + 1) q P [] _ (by omega) hq rfl (List.append_nil _).symm ?_⟩
    intro i x hi hx
    have hi2 := tp_get_len hx
    have ei : i = P.length := by omega
    subst ei
    rw [pk_us]
    have e3 := tp_get_mid P [] c
    rw [e3] at hx
    rw [Option.some.inj hx]
  | succ m ih =>
    intro f q' P' L hf hq' hm hL
    obtain ⟨f, rfl⟩ : ∃ f', f = f' + 1 := ⟨f - 1, by omega⟩
    cases q' with
    | zero =>
      rw [hF.1] at hq'
      cases hq'
      simp at hm
    | succ k =>
      have hk := tp_get_lt hq'
      obtain ⟨b, mm, a1, a2, a3, a4, a5, p, R, a6, a7, a8, a9⟩ := T k P' hq'
      have hRm : R.length = m := by
        rw [a8, tp_len_snoc] at hm
        omega
      have ek : (nI k).toNatClampNeg = k := nI_clamp (by omega)
      have s1 : tp_sI (k + 1) = nI k := rfl
      rw [s1]
      simp only [wX_findPath_21, ek]
      exact br_f (nI_pos (by omega)) (nm_r (nI_1 L) ⟨vp_in_nI (by omega) (by omega), nm_r a9 (ih f p R (L + 1) (by omega) a7 hRm (by omega))⟩)
/-- findPath: none, or the best path -/
theorem tp_xPath {post : Int32 → SX → Prop} (hn : n ≤ 12) (hG : tp_Gd n gd f_without f_timeAt a_goodFrom a_goodTo a_revokedFrom a_isHeld) (hF : tp_Fnd (gd, a_issuerName, a_issuerKey, a_subjectName, a_subjectKey, a_settings, a_anchors) n Q) (T : tp_Tab (gd, a_issuerName, a_issuerKey, a_subjectName, a_subjectKey, a_settings, a_anchors) Q a_stateOf a_openNames a_mayCome a_common a_before) (hl : Q.length = N + 1) (hc : c < n)
    (h0 : ¬ tp_Walk (gd, a_issuerName, a_issuerKey, a_subjectName, a_subjectKey, a_settings, a_anchors) (tp_fin (gd, a_issuerName, a_issuerKey, a_subjectName, a_subjectKey, a_settings, a_anchors)) c → post 0 (f_count, nI N, f_rounds, f_timeAt, f_without, f_pathLength, a_issuerName, a_issuerKey, a_subjectName, a_subjectKey, a_goodFrom, a_goodTo, a_settings, a_revokedFrom, a_isHeld, a_anchors, a_stateOf, a_openNames, a_mayCome, a_common, a_before, a_roundBegins, a_path))
    (h1 : ∀ (P : List Nat) (pa : Nat → Int32), tp_Best (gd, a_issuerName, a_issuerKey, a_subjectName, a_subjectKey, a_settings, a_anchors) c P → (∀ (i x : Nat), (P ++ [c])[i]? = some x → pa i = nI x) → post 1 (f_count, nI N, f_rounds, f_timeAt, f_without, nI (P.length + 1), a_issuerName, a_issuerKey, a_subjectName, a_subjectKey, a_goodFrom, a_goodTo, a_settings, a_revokedFrom, a_isHeld, a_anchors, a_stateOf, a_openNames, a_mayCome, a_common, a_before, a_roundBegins, pa)) :
    wpX_findPath post (f_count, nI N, f_rounds, f_timeAt, f_without, f_pathLength, a_issuerName, a_issuerKey, a_subjectName, a_subjectKey, a_goodFrom, a_goodTo, a_settings, a_revokedFrom, a_isHeld, a_anchors, a_stateOf, a_openNames, a_mayCome, a_common, a_before, a_roundBegins, a_path) (nI c) := by
  have hQ : Q.length ≤ 148 := hF.2.1
  simp only [wpX_findPath]
  refine tp_xFirst (gd := gd) hn hG hF T hl hc ?_ ?_
  · intro q P hq f hmin
    have hB := tp_Fnd_best hF hq f hmin
    have ne : ¬ tp_sI q = -2 := by
      cases q with
      | zero => decide
      | succ q =>
        have := tp_get_lt hq
        intro z
        have hp : ¬ nI q < 0 := nI_pos (by omega)
        have z2 : nI q = -2 := z
        rw [z2] at hp
        exact hp (by decide)
    refine br_f ne ⟨P.length + 1, ?_⟩
    exact tp_xPath21 (gd := gd) (f_states := nI N) hF T hq hB.2.1 (fun pa hp => h1 P pa hB hp) P.length (P.length + 1) q P 1 (by omega) hq rfl (by omega)
  · intro hz
    refine br_t rfl (h0 (fun w => ?_))
    obtain ⟨q, P, hq, f⟩ := (tp_Fnd_walk hF (tp_way_fin _) c).mp w
    exact hz q P hq f
theorem tp_xPol26 {post : Int32 → Prop} (hn : n ≤ 12) (hG : tp_Gd n gd f_without f_timeAt a_goodFrom a_goodTo a_revokedFrom a_isHeld) (hF : tp_Fnd (gd, a_issuerName, a_issuerKey, a_subjectName, a_subjectKey, a_settings, a_anchors) n Q) (T : tp_Tab (gd, a_issuerName, a_issuerKey, a_subjectName, a_subjectKey, a_settings, a_anchors) Q a_stateOf a_openNames a_mayCome a_common a_before) (hl : Q.length = N + 1) (hc : c < n)
    (h : ∀ r, (∀ b, b < 32 → (bt r b = true ↔ tp_Walk (gd, a_issuerName, a_issuerKey, a_subjectName, a_subjectKey, a_settings, a_anchors) (tp_finb (gd, a_issuerName, a_issuerKey, a_subjectName, a_subjectKey, a_settings, a_anchors) b) c)) → post r) :
    ∀ (f j : Nat) (r : Int32), j ≤ N → N - j < f → (∀ b, b < 32 → (bt r b = true ↔ ∃ (q : Nat) (P : List Nat), q < j + 1 ∧ Q[q]? = some P ∧ tp_finb (gd, a_issuerName, a_issuerKey, a_subjectName, a_subjectKey, a_settings, a_anchors) b (tp_run (gd, a_issuerName, a_issuerKey, a_subjectName, a_subjectKey, a_settings, a_anchors) tp_s0 P) c)) →
      wX_policiesFor_26 post (nI c) f_count (nI N) f_rounds f_timeAt f_without f_pathLength a_issuerName a_issuerKey a_subjectName a_subjectKey a_goodFrom a_goodTo a_settings a_revokedFrom a_isHeld a_anchors a_stateOf a_openNames a_mayCome a_common a_before a_roundBegins a_path f r (nI j) := by
  have hQ : Q.length ≤ 148 := hF.2.1
  have e4 : ((5 : Int32) * nI c + 4).toNatClampNeg = 5 * c + 4 := by rw [show (4 : Int32) = nI 4 from rfl, tp_mul5a]; exact nI_clamp (by omega)
  have i4 : vp_in ((5 : Int32) * nI c + 4) 60 := by rw [show (4 : Int32) = nI 4 from rfl, tp_mul5a]; exact vp_in_nI (by omega) (by omega)
  intro f
  induction f with
  | zero => intro j _ _ hf; omega
  | succ f ih =>
    intro j r hj hf hr
    have ej : (nI j).toNatClampNeg = j := nI_clamp (by omega)
    simp only [wX_policiesFor_26, e4, ej]
    by_cases e : j = N
    · subst e
      refine br_t (nI_le (Nat.le_refl _) (by omega)) (h r (fun b hb => ?_))
      rw [hr b hb, tp_Fnd_walk hF (tp_way_finb _ b)]
      constructor
      · rintro ⟨q, P, _, h1, h2⟩
        exact ⟨q, P, h1, h2⟩
      · rintro ⟨q, P, h1, h2⟩
        have := tp_get_lt h1
        exact ⟨q, P, by omega, h1, h2⟩
    · obtain ⟨P, hP⟩ : ∃ P, Q[j + 1]? = some P := ⟨Q[j + 1]'(by omega), List.getElem?_eq_getElem (by omega)⟩
      have at0 := tp_Tab_at T hF.1 (by omega) hP
      obtain ⟨b', m, a1, _⟩ := T j P hP
      have ec : (tp_run (gd, a_issuerName, a_issuerKey, a_subjectName, a_subjectKey, a_settings, a_anchors) tp_s0 P).2.2.2 = a_common j := by rw [a1]
      have step : ∀ b, (∃ (q : Nat) (P' : List Nat), q < j + 1 + 1 ∧ Q[q]? = some P' ∧ tp_finb (gd, a_issuerName, a_issuerKey, a_subjectName, a_subjectKey, a_settings, a_anchors) b (tp_run (gd, a_issuerName, a_issuerKey, a_subjectName, a_subjectKey, a_settings, a_anchors) tp_s0 P') c) ↔ ((∃ (q : Nat) (P' : List Nat), q < j + 1 ∧ Q[q]? = some P' ∧ tp_finb (gd, a_issuerName, a_issuerKey, a_subjectName, a_subjectKey, a_settings, a_anchors) b (tp_run (gd, a_issuerName, a_issuerKey, a_subjectName, a_subjectKey, a_settings, a_anchors) tp_s0 P') c) ∨ tp_finb (gd, a_issuerName, a_issuerKey, a_subjectName, a_subjectKey, a_settings, a_anchors) b (tp_run (gd, a_issuerName, a_issuerKey, a_subjectName, a_subjectKey, a_settings, a_anchors) tp_s0 P) c) := by
        intro b
        constructor
        · rintro ⟨q, P', h1, h2, h3⟩
          by_cases z : q = j + 1
          · subst z
            rw [hP] at h2
            cases h2
            exact Or.inr h3
          · exact Or.inl ⟨q, P', by omega, h2, h3⟩
        · rintro (⟨q, P', h1, h2, h3⟩ | h3)
          · exact ⟨q, P', by omega, h2, h3⟩
          · exact ⟨j + 1, P, by omega, hP, h3⟩
      refine br_f (nI_ge (by omega) (by omega)) (tp_xEnds (gd := gd) (by omega) (hG c hc) at0 (fun a => br_f (by decide) ⟨vp_in_nI (by omega) (by omega), i4, ?_⟩) (fun a => br_t rfl ?_))
      · refine nm_e (nm_r (nI_1 j) (ih (j + 1) _ (by omega) (by omega) (fun b hb => ?_)))
        rw [step b, b_or, Bool.or_eq_true, hr b hb, ← ec]
        exact ⟨fun z => z.elim Or.inl (fun y => Or.inr ⟨a, y⟩), fun z => z.elim Or.inl (fun y => Or.inr y.2)⟩
      · refine nm_e (nm_r (nI_1 j) (ih (j + 1) _ (by omega) (by omega) (fun b hb => ?_)))
        rw [step b, tp_bt0r, hr b hb]
        exact ⟨Or.inl, fun z => z.elim id (fun y => absurd y.1 a)⟩
theorem tp_xPol {post : Int32 → Prop} (hn : n ≤ 12) (hG : tp_Gd n gd f_without f_timeAt a_goodFrom a_goodTo a_revokedFrom a_isHeld) (hF : tp_Fnd (gd, a_issuerName, a_issuerKey, a_subjectName, a_subjectKey, a_settings, a_anchors) n Q) (T : tp_Tab (gd, a_issuerName, a_issuerKey, a_subjectName, a_subjectKey, a_settings, a_anchors) Q a_stateOf a_openNames a_mayCome a_common a_before) (hl : Q.length = N + 1) (hc : c < n)
    (hp : ∃ a, a < 16 ∧ a_settings (5 * c + 4) = nI a)
    (h : ∀ r, (∀ b, b < 32 → (bt r b = true ↔ tp_Walk (gd, a_issuerName, a_issuerKey, a_subjectName, a_subjectKey, a_settings, a_anchors) (tp_finb (gd, a_issuerName, a_issuerKey, a_subjectName, a_subjectKey, a_settings, a_anchors) b) c)) → post r) : wpX_policiesFor post (f_count, nI N, f_rounds, f_timeAt, f_without, f_pathLength, a_issuerName, a_issuerKey, a_subjectName, a_subjectKey, a_goodFrom, a_goodTo, a_settings, a_revokedFrom, a_isHeld, a_anchors, a_stateOf, a_openNames, a_mayCome, a_common, a_before, a_roundBegins, a_path) (nI c) := by
  have hQ : Q.length ≤ 148 := hF.2.1
  have e4 : ((5 : Int32) * nI c + 4).toNatClampNeg = 5 * c + 4 := by rw [show (4 : Int32) = nI 4 from rfl, tp_mul5a]; exact nI_clamp (by omega)
  have i4 : vp_in ((5 : Int32) * nI c + 4) 60 := by rw [show (4 : Int32) = nI 4 from rfl, tp_mul5a]; exact vp_in_nI (by omega) (by omega)
  have at0 := tp_Tab_at T hF.1 (by omega) hF.1
  have one : ∀ b, (∃ (q : Nat) (P : List Nat), q < 0 + 1 ∧ Q[q]? = some P ∧ tp_finb (gd, a_issuerName, a_issuerKey, a_subjectName, a_subjectKey, a_settings, a_anchors) b (tp_run (gd, a_issuerName, a_issuerKey, a_subjectName, a_subjectKey, a_settings, a_anchors) tp_s0 P) c) ↔ tp_finb (gd, a_issuerName, a_issuerKey, a_subjectName, a_subjectKey, a_settings, a_anchors) b tp_s0 c := by
    intro b
    constructor
    · rintro ⟨q, P, h1, h2, h3⟩
      have z : q = 0 := by omega
      subst z
      rw [hF.1] at h2
      cases h2
      exact h3
    · intro h3
      exact ⟨0, [], by omega, hF.1, h3⟩
  simp only [wpX_policiesFor, e4]
  refine tp_xEnds (gd := gd) (by omega) (hG c hc) at0 (fun a => br_f (by decide) ⟨i4, nm_e ⟨N + 1, ?_⟩⟩) (fun a => br_t rfl ⟨N + 1, ?_⟩)
  · refine tp_xPol26 (gd := gd) hn hG hF T hl hc h (N + 1) 0 _ (Nat.zero_le _) (by omega) (fun b hb => ?_)
    obtain ⟨v, hv1, hv2⟩ := hp
    have e : bt (a_settings (5 * c + 4)) b = bt (tp_s0.2.2.2 &&& a_settings (5 * c + 4)) b := by
      rw [hv2]
      show _ = bt (15 &&& nI v) b
      rw [tp_15 v hv1]
    rw [one b, e]
    exact ⟨fun y => ⟨a, y⟩, fun y => y.2⟩
  · refine tp_xPol26 (gd := gd) hn hG hF T hl hc h (N + 1) 0 0 (Nat.zero_le _) (by omega) (fun b hb => ?_)
    rw [one b, b_0]
    exact ⟨fun y => absurd y (by decide), fun y => absurd y.1 a⟩
theorem tp_xTset4 {post : Int32 → Prop} (hn : n ≤ 12) (hG : tp_Gd n gd f_without f_timeAt a_goodFrom a_goodTo a_revokedFrom a_isHeld) (hF : tp_Fnd (gd, a_issuerName, a_issuerKey, a_subjectName, a_subjectKey, a_settings, a_anchors) n Q) (T : tp_Tab (gd, a_issuerName, a_issuerKey, a_subjectName, a_subjectKey, a_settings, a_anchors) Q a_stateOf a_openNames a_mayCome a_common a_before) (hl : Q.length = N + 1)
    (h : ∀ r, (∀ b, b < 32 → (bt r b = true ↔ b < n ∧ tp_Walk (gd, a_issuerName, a_issuerKey, a_subjectName, a_subjectKey, a_settings, a_anchors) (tp_fin (gd, a_issuerName, a_issuerKey, a_subjectName, a_subjectKey, a_settings, a_anchors)) b)) → post r) :
    ∀ (f k : Nat) (r : Int32), k ≤ n → n - k < f → (∀ b, b < 32 → (bt r b = true ↔ b < k ∧ tp_Walk (gd, a_issuerName, a_issuerKey, a_subjectName, a_subjectKey, a_settings, a_anchors) (tp_fin (gd, a_issuerName, a_issuerKey, a_subjectName, a_subjectKey, a_settings, a_anchors)) b)) → wX_trustedSet_4 post (nI n) (nI N) f_rounds f_timeAt f_without f_pathLength a_issuerName a_issuerKey a_subjectName a_subjectKey a_goodFrom a_goodTo a_settings a_revokedFrom a_isHeld a_anchors a_stateOf a_openNames a_mayCome a_common a_before a_roundBegins a_path f r (nI k) := by
  intro f
  induction f with
  | zero => intro k _ _ hf; omega
  | succ f ih =>
    intro k r hk hf hr
    simp only [wX_trustedSet_4]
    by_cases e : k = n
    · subst e
      exact br_t (nI_le (Nat.le_refl _) (by omega)) (h r hr)
    · refine br_f (nI_ge (by omega) (by omega)) (tp_xFirstW (gd := gd) hn hG hF T hl (by omega) (fun r' hr' w => br_f hr' (nm_e (nm_r (nI_1 k) (ih (k + 1) _ (by omega) (by omega) (fun b hb => ?_))))) (fun w => br_t rfl (nm_e (nm_r (nI_1 k) (ih (k + 1) _ (by omega) (by omega) (fun b hb => ?_))))))
      · rw [b_or, Bool.or_eq_true, tp_b1c (by omega) b hb, decide_eq_true_iff, hr b hb]
        constructor
        · rintro (⟨z1, z2⟩ | z)
          · exact ⟨by omega, z2⟩
          · subst z
            exact ⟨by omega, w⟩
        · rintro ⟨z1, z2⟩
          by_cases y : b = k
          · exact Or.inr y
          · exact Or.inl ⟨by omega, z2⟩
      · rw [tp_bt0r, hr b hb]
        constructor
        · rintro ⟨z1, z2⟩
          exact ⟨by omega, z2⟩
        · rintro ⟨z1, z2⟩
          by_cases y : b = k
          · subst y
            exact absurd z2 w
          · exact ⟨by omega, z2⟩
theorem tp_xTset {post : Int32 → Prop} (hn : n ≤ 12) (hG : tp_Gd n gd f_without f_timeAt a_goodFrom a_goodTo a_revokedFrom a_isHeld) (hF : tp_Fnd (gd, a_issuerName, a_issuerKey, a_subjectName, a_subjectKey, a_settings, a_anchors) n Q) (T : tp_Tab (gd, a_issuerName, a_issuerKey, a_subjectName, a_subjectKey, a_settings, a_anchors) Q a_stateOf a_openNames a_mayCome a_common a_before) (hl : Q.length = N + 1)
    (h : ∀ r, (∀ b, b < 32 → (bt r b = true ↔ b < n ∧ tp_Walk (gd, a_issuerName, a_issuerKey, a_subjectName, a_subjectKey, a_settings, a_anchors) (tp_fin (gd, a_issuerName, a_issuerKey, a_subjectName, a_subjectKey, a_settings, a_anchors)) b)) → post r) : wpX_trustedSet post (nI n, nI N, f_rounds, f_timeAt, f_without, f_pathLength, a_issuerName, a_issuerKey, a_subjectName, a_subjectKey, a_goodFrom, a_goodTo, a_settings, a_revokedFrom, a_isHeld, a_anchors, a_stateOf, a_openNames, a_mayCome, a_common, a_before, a_roundBegins, a_path) := by
  simp only [wpX_trustedSet]
  refine ⟨n + 1, tp_xTset4 (gd := gd) hn hG hF T hl h (n + 1) 0 0 (Nat.zero_le _) (by omega) (fun b hb => ?_)⟩
  rw [b_0]
  exact ⟨fun z => absurd z (by decide), fun z => absurd z.1 (Nat.not_lt_zero _)⟩
end
end
section
/-! the reference's small questions -/
def tp_Rg (n : Nat) (iN iK sN sK : Nat → Int32) : Prop :=
  ∀ c, c < n → (∃ a, a < 8 ∧ iN c = nI a) ∧ (∃ a, a < 10 ∧ iK c = nI a) ∧ (∃ a, a < 8 ∧ sN c = nI a) ∧ (∃ a, a < 10 ∧ sK c = nI a)
theorem tp_ends {a k a' k' : Nat} (ha : a < 8) (hk : k < 10) (ha' : a' < 8) (hk' : k' < 10) : (10 : Int32) * nI a + nI k = 10 * nI a' + nI k' ↔ (nI a = nI a' ∧ nI k = nI k') := by
  have e : ∀ x y : Nat, (10 : Int32) * nI x + nI y = nI (10 * x + y) := by
    intro x y
    rw [show (10 : Int32) = nI 10 from rfl, pk_mul, nI_add]
  rw [e, e, nI_eq (by omega) (by omega), nI_eq (by omega) (by omega), nI_eq (by omega) (by omega)]
  omega
section
variable {f_made f_valid : Int32} {a_issuers a_subjects a_issuerKeys a_subjectKeys a_froms a_tos a_terms a_revoked a_held a_anchors a_lengths a_steps a_found a_common a_list a_nexts a_names a_policyLeft a_room : Nat → Int32}
variable {gd : Nat → Bool} {c n : Nat} {P : List Nat}
theorem tp_yHas {post : Int32 → Prop} {m x : Int32} (h1 : (m >>> (x &&& 31)) &&& 1 = 1 → post 1) (h0 : ¬ (m >>> (x &&& 31)) &&& 1 = 1 → post 0) : wpY_has post (f_made, f_valid, a_issuers, a_subjects, a_issuerKeys, a_subjectKeys, a_froms, a_tos, a_terms, a_revoked, a_held, a_anchors, a_lengths, a_steps, a_found, a_common, a_list, a_nexts, a_names, a_policyLeft, a_room) m x := by
  simp only [wpY_has]
  exact br_c h1 h0
theorem tp_yValid4 {post : Int32 → Prop} {ti : Int32} (hn : n ≤ 12)
    (h : ∀ r, (∀ b, b < 32 → (bt r b = true ↔ b < n ∧ (a_held b = 0 ∧ ¬ ti < a_froms b ∧ ¬ a_tos b < ti ∧ ¬ a_revoked b ≤ ti))) → post r) :
    ∀ (f k : Nat) (r : Int32), k ≤ n → n - k < f → (∀ b, b < 32 → (bt r b = true ↔ b < k ∧ (a_held b = 0 ∧ ¬ ti < a_froms b ∧ ¬ a_tos b < ti ∧ ¬ a_revoked b ≤ ti))) → wY_validAt_4 post ti (nI n) f_valid a_issuers a_subjects a_issuerKeys a_subjectKeys a_froms a_tos a_terms a_revoked a_held a_anchors a_lengths a_steps a_found a_common a_list a_nexts a_names a_policyLeft a_room f r (nI k) := by
  intro f
  induction f with
  | zero => intro k _ _ hf; omega
  | succ f ih =>
    intro k r hk hf hr
    have ek : (nI k).toNatClampNeg = k := nI_clamp (by omega)
    simp only [wY_validAt_4, ek]
    by_cases e : k = n
    · subst e
      exact br_t (nI_le (Nat.le_refl _) (by omega)) (h r hr)
    · have ik : vp_in (nI k) 12 := vp_in_nI (by omega) (by omega)
      have no : ¬ (a_held k = 0 ∧ ¬ ti < a_froms k ∧ ¬ a_tos k < ti ∧ ¬ a_revoked k ≤ ti) → wY_validAt_4 post ti (nI n) f_valid a_issuers a_subjects a_issuerKeys a_subjectKeys a_froms a_tos a_terms a_revoked a_held a_anchors a_lengths a_steps a_found a_common a_list a_nexts a_names a_policyLeft a_room f r (nI (k + 1)) := by
        intro z
        refine ih (k + 1) r (by omega) (by omega) (fun b hb => ?_)
        rw [hr b hb]
        constructor
        · rintro ⟨y1, y2⟩
          exact ⟨by omega, y2⟩
        · rintro ⟨y1, y2⟩
          by_cases w : b = k
          · subst w
            exact absurd y2 z
          · exact ⟨by omega, y2⟩
      refine br_f (nI_ge (by omega) (by omega)) ⟨ik, br_c (fun a => nm_r (nI_1 k) (no (fun z => z.2.1 a))) (fun a => ⟨ik, br_c (fun b => nm_r (nI_1 k) (no (fun z => z.2.2.1 b))) (fun b => ⟨ik, br_c (fun d => nm_r (nI_1 k) (no (fun z => z.2.2.2 d))) (fun d => ⟨ik, br_c (fun g => nm_e (nm_r (nI_1 k) ?_)) (fun g => nm_r (nI_1 k) (no (fun z => g z.1)))⟩)⟩)⟩)⟩
      refine ih (k + 1) _ (by omega) (by omega) (fun b' hb => ?_)
      rw [b_or, Bool.or_eq_true, tp_b1c (by omega) b' hb, decide_eq_true_iff, hr b' hb]
      constructor
      · rintro (⟨y1, y2⟩ | y)
        · exact ⟨by omega, y2⟩
        · subst y
          exact ⟨by omega, g, a, b, d⟩
      · rintro ⟨y1, y2⟩
        by_cases w : b' = k
        · exact Or.inr w
        · exact Or.inl ⟨by omega, y2⟩
theorem tp_yValid {post : Int32 → Prop} {ti : Int32} (hn : n ≤ 12)
    (h : ∀ r, (∀ b, b < 32 → (bt r b = true ↔ b < n ∧ (a_held b = 0 ∧ ¬ ti < a_froms b ∧ ¬ a_tos b < ti ∧ ¬ a_revoked b ≤ ti))) → post r) : wpY_validAt post (nI n, f_valid, a_issuers, a_subjects, a_issuerKeys, a_subjectKeys, a_froms, a_tos, a_terms, a_revoked, a_held, a_anchors, a_lengths, a_steps, a_found, a_common, a_list, a_nexts, a_names, a_policyLeft, a_room) ti := by
  simp only [wpY_validAt]
  refine ⟨n + 1, tp_yValid4 hn h (n + 1) 0 0 (Nat.zero_le _) (by omega) (fun b hb => ?_)⟩
  rw [b_0]
  exact ⟨fun z => absurd z (by decide), fun z => absurd z.1 (Nat.not_lt_zero _)⟩
theorem tp_yFollows {post : Int32 → Prop} (hn : n ≤ 12) (hc : c < n) (hR : tp_Rg n a_issuers a_issuerKeys a_subjects a_subjectKeys) (hP : P.length ≤ 5) (hx : ∀ x, x ∈ P → x < n) (hL : ∀ (i x : Nat), P[i]? = some x → a_list i = nI x)
    (h1 : tp_fl (gd, a_issuers, a_issuerKeys, a_subjects, a_subjectKeys, a_terms, a_anchors) (tp_run (gd, a_issuers, a_issuerKeys, a_subjects, a_subjectKeys, a_terms, a_anchors) tp_s0 P).1 c = true → post 1) (h0 : ¬ tp_fl (gd, a_issuers, a_issuerKeys, a_subjects, a_subjectKeys, a_terms, a_anchors) (tp_run (gd, a_issuers, a_issuerKeys, a_subjects, a_subjectKeys, a_terms, a_anchors) tp_s0 P).1 c = true → post 0) : wpY_follows post (f_made, f_valid, a_issuers, a_subjects, a_issuerKeys, a_subjectKeys, a_froms, a_tos, a_terms, a_revoked, a_held, a_anchors, a_lengths, a_steps, a_found, a_common, a_list, a_nexts, a_names, a_policyLeft, a_room) (nI c) (nI P.length) := by
  have e : (nI c).toNatClampNeg = c := nI_clamp (by omega)
  have hi : vp_in (nI c) 12 := vp_in_nI (by omega) (by omega)
  rcases tp_cases P with z | ⟨R, b, z⟩
  · subst z
    have hf : tp_fl (gd, a_issuers, a_issuerKeys, a_subjects, a_subjectKeys, a_terms, a_anchors) none c = true ↔ (a_anchors 0 = (10 * a_issuers c) + a_issuerKeys c ∨ a_anchors 1 = (10 * a_issuers c) + a_issuerKeys c ∨ a_anchors 2 = (10 * a_issuers c) + a_issuerKeys c) := decide_eq_true_iff
    rw [tp_run_nil] at h1 h0
    rw [show (tp_s0).1 = none from rfl, hf] at h1 h0
    simp only [wpY_follows, e]
    exact ⟨hi, hi, nm_e (br_t rfl (br_c (fun a => h1 (Or.inl a.symm)) (fun a => br_c (fun b => h1 (Or.inr (Or.inl b.symm))) (fun b => br_c (fun d => h1 (Or.inr (Or.inr d.symm))) (fun d => h0 (fun z => z.elim (fun y => a y.symm) (fun z => z.elim (fun y => b y.symm) (fun y => d y.symm))))))))⟩
  · have hb : b < n := hx b (by rw [z]; exact List.mem_append_right _ (List.mem_singleton.mpr rfl))
    have hl : P.length = R.length + 1 := by rw [z, tp_len_snoc]
    have hLb : a_list R.length = nI b := hL R.length b (by rw [z]; exact tp_get_mid R [] b)
    have hf : tp_fl (gd, a_issuers, a_issuerKeys, a_subjects, a_subjectKeys, a_terms, a_anchors) (some b) c = true ↔ (a_issuers c = a_subjects b ∧ a_issuerKeys c = a_subjectKeys b) := decide_eq_true_iff
    rw [z, tp_run_snoc] at h1 h0
    rw [show ∀ s, (tp_nx (gd, a_issuers, a_issuerKeys, a_subjects, a_subjectKeys, a_terms, a_anchors) s b).1 = some b from fun _ => rfl, hf] at h1 h0
    obtain ⟨⟨a1, p1, q1⟩, ⟨a2, p2, q2⟩, _, _⟩ := hR c hc
    obtain ⟨_, _, ⟨a3, p3, q3⟩, ⟨a4, p4, q4⟩⟩ := hR b hb
    have key : (10 * a_issuers c) + a_issuerKeys c = (10 * a_subjects b) + a_subjectKeys b ↔ (a_issuers c = a_subjects b ∧ a_issuerKeys c = a_subjectKeys b) := by
      rw [q1, q2, q3, q4]
      exact tp_ends p1 p2 p3 p4
    have eb : (nI b).toNatClampNeg = b := nI_clamp (by omega)
    have hb' : vp_in (nI b) 12 := vp_in_nI (by omega) (by omega)
    have e1 : nI P.length - 1 = nI R.length := by rw [hl, nI_pred]
    have e2 : (nI R.length).toNatClampNeg = R.length := nI_clamp (by omega)
    have ne : ¬ nI P.length = 0 := nI_ne0 (by omega) (by omega)
    simp only [wpY_follows, e, e1, e2]
    refine ⟨hi, hi, nm_e (br_f ne ⟨vp_in_nI (by omega) (by omega), nm_r hLb ?_⟩)⟩
    rw [eb]
    exact ⟨hb', hb', br_c (fun y => h1 (key.mp y)) (fun y => h0 (fun w => y (key.mpr w)))⟩
theorem tp_yUsed2 {post : Int32 → Prop} (hc : c < 12) (hP : P.length ≤ 5) (hx : ∀ x, x ∈ P → x < 12) (hL : ∀ (i x : Nat), P[i]? = some x → a_list i = nI x) (h1 : c ∈ P → post 1) (h0 : ¬ c ∈ P → post 0) :
    ∀ (f j : Nat), j ≤ P.length → P.length - j < f → (∀ i, i < j → ¬ P[i]? = some c) → wY_isUsed_2 post (nI c) (nI P.length) f_made f_valid a_issuers a_subjects a_issuerKeys a_subjectKeys a_froms a_tos a_terms a_revoked a_held a_anchors a_lengths a_steps a_found a_common a_list a_nexts a_names a_policyLeft a_room f (nI j) := by
  intro f
  induction f with
  | zero => intro j _ hf; omega
  | succ f ih =>
    intro j hj hf hk
    have ej : (nI j).toNatClampNeg = j := nI_clamp (by omega)
    simp only [wY_isUsed_2, ej]
    by_cases e : j = P.length
    · refine br_t (nI_le (by omega) (by omega)) (h0 (fun z => ?_))
      obtain ⟨i, hi, e2⟩ := List.getElem_of_mem z
      exact hk i (by omega) (by rw [List.getElem?_eq_getElem hi, e2])
    · have hj' : j < P.length := by omega
      have ex : P[j]? = some P[j] := List.getElem?_eq_getElem hj'
      have hxj := hx P[j] (List.getElem_mem hj')
      rw [hL j _ ex]
      refine br_f (nI_ge hj' (by omega)) ⟨vp_in_nI (by omega) (by omega), pk_eq P[j] c (fun y => h1 ?_) (fun y => nm_r (nI_1 j) (ih (j + 1) (by omega) (by omega) (lt_s hk (fun w => ?_))))⟩
      · rw [← y]
        exact List.getElem_mem hj'
      · rw [ex] at w
        exact y (Option.some.inj w)
theorem tp_yUsed {post : Int32 → Prop} (hc : c < 12) (hP : P.length ≤ 5) (hx : ∀ x, x ∈ P → x < 12) (hL : ∀ (i x : Nat), P[i]? = some x → a_list i = nI x) (h1 : c ∈ P → post 1) (h0 : ¬ c ∈ P → post 0) : wpY_isUsed post (f_made, f_valid, a_issuers, a_subjects, a_issuerKeys, a_subjectKeys, a_froms, a_tos, a_terms, a_revoked, a_held, a_anchors, a_lengths, a_steps, a_found, a_common, a_list, a_nexts, a_names, a_policyLeft, a_room) (nI c) (nI P.length) := by
  simp only [wpY_isUsed]
  exact ⟨P.length + 1, tp_yUsed2 hc hP hx hL h1 h0 (P.length + 1) 0 (Nat.zero_le _) (by omega) lt_0⟩
end
end
section
/-! the reference's end: one more list is noted -/
section
variable {f_made f_valid : Int32} {a_issuers a_subjects a_issuerKeys a_subjectKeys a_froms a_tos a_terms a_revoked a_held a_anchors a_lengths a_steps a_found a_common a_list a_nexts a_names a_policyLeft a_room : Nat → Int32}
variable {gd : Nat → Bool} {c : Nat} {P : List Nat} {E : List Nat → Nat → Prop}
theorem tp_yEnd150 {post : SY → Prop} (hc : c < 12) (hP : P.length ≤ 5) (hL : ∀ (i x : Nat), P[i]? = some x → a_list i = nI x)
    (h : ∀ st : Nat → Int32, (∀ (i x : Nat), (P ++ [c])[i]? = some x → st (6 * c + i) = nI x) → (∀ j, (j < 6 * c ∨ 6 * c + 6 ≤ j) → st j = a_steps j) → post (f_made, f_valid, a_issuers, a_subjects, a_issuerKeys, a_subjectKeys, a_froms, a_tos, a_terms, a_revoked, a_held, a_anchors, a_lengths, st, a_found, a_common, a_list, a_nexts, a_names, a_policyLeft, a_room)) :
    ∀ (f j : Nat) (st : Nat → Int32), j ≤ P.length → P.length - j < f → (∀ (i x : Nat), i < j → P[i]? = some x → st (6 * c + i) = nI x) → (∀ j, (j < 6 * c ∨ 6 * c + 6 ≤ j) → st j = a_steps j) →
      wY_end_150 post (nI c) (nI P.length) f_made f_valid f (nI j) a_issuers a_subjects a_issuerKeys a_subjectKeys a_froms a_tos a_terms a_revoked a_held a_anchors a_lengths st a_found a_common a_list a_nexts a_names a_policyLeft a_room := by
  have m6 : ∀ k, (6 : Int32) * nI c + nI k = nI (6 * c + k) := by
    intro k
    rw [show (6 : Int32) = nI 6 from rfl, pk_mul, nI_add]
  intro f
  induction f with
  | zero => intro j _ _ hf; omega
  | succ f ih =>
    intro j st hj hf hs ho
    have ej : (nI j).toNatClampNeg = j := nI_clamp (by omega)
    have e1 : (nI (6 * c + j)).toNatClampNeg = 6 * c + j := nI_clamp (by omega)
    have e2 : (nI (6 * c + P.length)).toNatClampNeg = 6 * c + P.length := nI_clamp (by omega)
    simp only [wY_end_150, ej, m6, e1, e2]
    by_cases e : j = P.length
    · refine br_t (nI_le (by omega) (by omega)) ⟨vp_in_nI (by omega) (by omega), nm_e (h _ ?_ ?_)⟩
      · intro i x hx
        have hi := tp_get_len hx
        by_cases z : i = P.length
        · subst z
          rw [pk_us]
          rw [tp_get_mid P [] c] at hx
          rw [Option.some.inj hx]
        · rw [pk_un (by omega)]
          rw [List.getElem?_append_left (by omega)] at hx
          exact hs i x (by omega) hx
      · intro k hk
        rw [pk_un (by omega)]
        exact ho k hk
    · have hj' : j < P.length := by omega
      have ex : P[j]? = some P[j] := List.getElem?_eq_getElem hj'
      refine br_f (nI_ge hj' (by omega)) ⟨vp_in_nI (by omega) (by omega), vp_in_nI (by omega) (by omega), nm_e (nm_r (nI_1 j) (ih (j + 1) _ (by omega) (by omega) ?_ ?_))⟩
      · intro i x hi hx
        by_cases z : i = j
        · subst z
          rw [pk_us, hL i x hx]
        · rw [pk_un (by omega)]
          exact hs i x (by omega) hx
      · intro k hk
        rw [pk_un (by omega)]
        exact ho k hk
theorem tp_yEnd102 {post : SY → Prop} {o z0 : Int32} (A : tp_Acc (gd, a_issuers, a_issuerKeys, a_subjects, a_subjectKeys, a_terms, a_anchors) E a_lengths a_steps a_found a_common) (hc : c < 12) (hP : P.length ≤ 5) (hL : ∀ (i x : Nat), P[i]? = some x → a_list i = nI x)
    (hx : ∀ x, x ∈ P → x < 12) (hE : ∀ P', E P' c → P'.length = P.length → tp_sl P' ≤ tp_sl P) (hEx : ∀ P', E P' c → ∀ x, x ∈ P' → x < 12) (ho : ∀ x, x < 12 → (bt o x = true ↔ x ∈ P))
    (hz : (a_lengths c = 0 ∧ z0 = o) ∨ (¬ a_lengths c = 0 ∧ z0 = a_common c &&& o))
    (h : ∀ ln st fo co : Nat → Int32, tp_Acc (gd, a_issuers, a_issuerKeys, a_subjects, a_subjectKeys, a_terms, a_anchors) (fun P' c' => E P' c' ∨ (P' = P ∧ c' = c)) ln st fo co → post (f_made, f_valid, a_issuers, a_subjects, a_issuerKeys, a_subjectKeys, a_froms, a_tos, a_terms, a_revoked, a_held, a_anchors, ln, st, fo, co, a_list, a_nexts, a_names, a_policyLeft, a_room)) :
    wY_end_102 post (nI c) (nI P.length) (tp_pl (gd, a_issuers, a_issuerKeys, a_subjects, a_subjectKeys, a_terms, a_anchors) P c) z0 (nI c) f_made f_valid a_issuers a_subjects a_issuerKeys a_subjectKeys a_froms a_tos a_terms a_revoked a_held a_anchors a_lengths a_steps a_found a_common a_list a_nexts a_names a_policyLeft a_room := by
  have e : (nI c).toNatClampNeg = c := nI_clamp (by omega)
  have hi : vp_in (nI c) 12 := vp_in_nI hc (by omega)
  have hco : (a_lengths c = 0 ∧ upd a_common c z0 = upd a_common c o) ∨ (¬ a_lengths c = 0 ∧ upd a_common c z0 = upd a_common c (a_common c &&& o)) := by
    rcases hz with ⟨y1, y2⟩ | ⟨y1, y2⟩
    · exact Or.inl ⟨y1, by rw [y2]⟩
    · exact Or.inr ⟨y1, by rw [y2]⟩
  have upgo : (a_lengths c = 0 ∨ ¬ a_lengths c ≤ nI (P.length + 1)) → wY_end_138 post (nI c) (nI P.length) f_made f_valid a_issuers a_subjects a_issuerKeys a_subjectKeys a_froms a_tos a_terms a_revoked a_held a_anchors a_lengths a_steps (upd a_found c (a_found c ||| tp_pl (gd, a_issuers, a_issuerKeys, a_subjects, a_subjectKeys, a_terms, a_anchors) P c)) (upd a_common c z0) a_list a_nexts a_names a_policyLeft a_room := by
    intro y
    simp only [wY_end_138, e, nI_1]
    refine ⟨hi, nm_e ⟨P.length + 1, tp_yEnd150 hc hP hL ?_ (P.length + 1) 0 a_steps (Nat.zero_le _) (by omega) (fun _ _ z => absurd z (Nat.not_lt_zero _)) (fun _ _ => rfl)⟩⟩
    intro st hs1 hs2
    exact h _ st _ _ (tp_Acc_add A hc hP hx hE hEx ho (Or.inl ⟨y, rfl, hs1, hs2⟩) hco)
  simp only [wY_end_102, e, nI_1]
  refine ⟨hi, nm_e ⟨hi, hi, nm_e ⟨hi, br_c (fun y => upgo (Or.inl y)) (fun y => ⟨hi, br_c (fun w => ?_) (fun w => upgo (Or.inr w))⟩)⟩⟩⟩
  exact h _ _ _ _ (tp_Acc_add A hc hP hx hE hEx ho (Or.inr ⟨y, w, rfl, rfl⟩) hco)
theorem tp_yEnd48 {post : SY → Prop} {x3 : Int32} (hP : P.length ≤ 5) (hc : c < 12) (hL : ∀ (i x : Nat), P[i]? = some x → a_list i = nI x) (hx : ∀ x, x ∈ P → x < 12)
    (h : ∀ o z0 : Int32, (∀ x, x < 12 → (bt o x = true ↔ x ∈ P)) → ((a_lengths c = 0 ∧ z0 = o) ∨ (¬ a_lengths c = 0 ∧ z0 = a_common c &&& o)) → wY_end_102 post (nI c) (nI P.length) x3 z0 (nI c) f_made f_valid a_issuers a_subjects a_issuerKeys a_subjectKeys a_froms a_tos a_terms a_revoked a_held a_anchors a_lengths a_steps a_found a_common a_list a_nexts a_names a_policyLeft a_room) :
    ∀ (f j : Nat) (o : Int32), j ≤ P.length → P.length - j < f → (∀ x, x < 12 → (bt o x = true ↔ ∃ i, i < j ∧ P[i]? = some x)) → wY_end_48 post (nI c) (nI P.length) x3 f_made f_valid a_issuers a_subjects a_issuerKeys a_subjectKeys a_froms a_tos a_terms a_revoked a_held a_anchors a_lengths a_steps a_found a_common a_list a_nexts a_names a_policyLeft a_room f o (nI j) := by
  have e : (nI c).toNatClampNeg = c := nI_clamp (by omega)
  have hi : vp_in (nI c) 12 := vp_in_nI hc (by omega)
  intro f
  induction f with
  | zero => intro j _ _ hf; omega
  | succ f ih =>
    intro j o hj hf ho
    have ej : (nI j).toNatClampNeg = j := nI_clamp (by omega)
    simp only [wY_end_48, e, ej]
    by_cases ejP : j = P.length
    · have ho' : ∀ x, x < 12 → (bt o x = true ↔ x ∈ P) := by
        intro x hx12
        rw [ho x hx12]
        constructor
        · rintro ⟨i, _, y⟩
          exact List.mem_of_getElem? y
        · intro y
          obtain ⟨i, hi2, e2⟩ := List.getElem_of_mem y
          exact ⟨i, by omega, by rw [List.getElem?_eq_getElem hi2, e2]⟩
      exact br_t (nI_le (by omega) (by omega)) ⟨hi, br_c (fun y => h o o ho' (Or.inl ⟨y, rfl⟩)) (fun y => ⟨hi, h o _ ho' (Or.inr ⟨y, rfl⟩)⟩)⟩
    · have hj' : j < P.length := by omega
      have ex : P[j]? = some P[j] := List.getElem?_eq_getElem hj'
      have hxj := hx P[j] (List.getElem_mem hj')
      rw [hL j _ ex]
      refine br_f (nI_ge hj' (by omega)) ⟨vp_in_nI (by omega) (by omega), nm_e (nm_r (nI_1 j) (ih (j + 1) _ (by omega) (by omega) (fun x hx12 => ?_)))⟩
      rw [b_or, Bool.or_eq_true, tp_b1c (by omega) x (by omega), decide_eq_true_iff, ho x hx12]
      constructor
      · rintro (⟨i, y1, y2⟩ | y)
        · exact ⟨i, by omega, y2⟩
        · exact ⟨j, by omega, by rw [ex, y]⟩
      · rintro ⟨i, y1, y2⟩
        by_cases z : i = j
        · subst z
          rw [ex] at y2
          exact Or.inr (Option.some.inj y2).symm
        · exact Or.inl ⟨i, by omega, y2⟩
theorem tp_yEnd {post : SY → Prop} (A : tp_Acc (gd, a_issuers, a_issuerKeys, a_subjects, a_subjectKeys, a_terms, a_anchors) E a_lengths a_steps a_found a_common) (hc : c < 12) (hP : P.length ≤ 5) (hL : ∀ (i x : Nat), P[i]? = some x → a_list i = nI x)
    (hx : ∀ x, x ∈ P → x < 12) (hE : ∀ P', E P' c → P'.length = P.length → tp_sl P' ≤ tp_sl P) (hEx : ∀ P', E P' c → ∀ x, x ∈ P' → x < 12)
    (hna : a_names P.length = (tp_run (gd, a_issuers, a_issuerKeys, a_subjects, a_subjectKeys, a_terms, a_anchors) tp_s0 P).2.1) (hpl : a_policyLeft P.length = (tp_run (gd, a_issuers, a_issuerKeys, a_subjects, a_subjectKeys, a_terms, a_anchors) tp_s0 P).2.2.2)
    (hno : ¬ (tp_opn a_subjects (tp_run (gd, a_issuers, a_issuerKeys, a_subjects, a_subjectKeys, a_terms, a_anchors) tp_s0 P).2.1 c ∧ ¬ tp_pl (gd, a_issuers, a_issuerKeys, a_subjects, a_subjectKeys, a_terms, a_anchors) P c = 0) → post (f_made, f_valid, a_issuers, a_subjects, a_issuerKeys, a_subjectKeys, a_froms, a_tos, a_terms, a_revoked, a_held, a_anchors, a_lengths, a_steps, a_found, a_common, a_list, a_nexts, a_names, a_policyLeft, a_room))
    (hyes : (tp_opn a_subjects (tp_run (gd, a_issuers, a_issuerKeys, a_subjects, a_subjectKeys, a_terms, a_anchors) tp_s0 P).2.1 c ∧ ¬ tp_pl (gd, a_issuers, a_issuerKeys, a_subjects, a_subjectKeys, a_terms, a_anchors) P c = 0) → ∀ ln st fo co : Nat → Int32, tp_Acc (gd, a_issuers, a_issuerKeys, a_subjects, a_subjectKeys, a_terms, a_anchors) (fun P' c' => E P' c' ∨ (P' = P ∧ c' = c)) ln st fo co → post (f_made, f_valid, a_issuers, a_subjects, a_issuerKeys, a_subjectKeys, a_froms, a_tos, a_terms, a_revoked, a_held, a_anchors, ln, st, fo, co, a_list, a_nexts, a_names, a_policyLeft, a_room)) :
    wpY_end post (f_made, f_valid, a_issuers, a_subjects, a_issuerKeys, a_subjectKeys, a_froms, a_tos, a_terms, a_revoked, a_held, a_anchors, a_lengths, a_steps, a_found, a_common, a_list, a_nexts, a_names, a_policyLeft, a_room) (nI c) (nI P.length) := by
  have e : (nI c).toNatClampNeg = c := nI_clamp (by omega)
  have hi : vp_in (nI c) 12 := vp_in_nI hc (by omega)
  have el : (nI P.length).toNatClampNeg = P.length := nI_clamp (by omega)
  have il : vp_in (nI P.length) 7 := vp_in_nI (by omega) (by omega)
  have e4 : ((5 : Int32) * nI c + 4).toNatClampNeg = 5 * c + 4 := by rw [show (4 : Int32) = nI 4 from rfl, tp_mul5a]; exact nI_clamp (by omega)
  have i4 : vp_in ((5 : Int32) * nI c + 4) 60 := by rw [show (4 : Int32) = nI 4 from rfl, tp_mul5a]; exact vp_in_nI (by omega) (by omega)
  have epl : a_policyLeft P.length &&& a_terms (5 * c + 4) = tp_pl (gd, a_issuers, a_issuerKeys, a_subjects, a_subjectKeys, a_terms, a_anchors) P c := by rw [hpl]; rfl
  simp only [wpY_end, e, el, e4]
  refine ⟨il, i4, nm_r epl (br_c (fun y => hno (fun z => z.2 y)) (fun y => ⟨il, hi, ?_⟩))⟩
  rw [hna]
  refine tp_yHas (fun w => br_f (by decide) ⟨P.length + 1, ?_⟩) (fun w => br_t rfl (hno (fun z => w z.1)))
  refine tp_yEnd48 hP hc hL hx ?_ (P.length + 1) 0 0 (Nat.zero_le _) (by omega) (fun x hx12 => ?_)
  · intro o z0 ho hz
    exact tp_yEnd102 (gd := gd) A hc hP hL hx hE hEx ho hz (hyes ⟨w, y⟩)
  · rw [b_0]
    exact ⟨fun z => absurd z (by decide), fun ⟨_, z, _⟩ => absurd z (Nat.not_lt_zero _)⟩
end
/-! the reference's goOn -/
def tp_rm (d r m : Nat) : Prop := (m < 4 ∧ r = m) ∨ (m = 4 ∧ 100 ≤ r + d ∧ r ≤ 100)
section
variable {f_made f_valid : Int32} {a_issuers a_subjects a_issuerKeys a_subjectKeys a_froms a_tos a_terms a_revoked a_held a_anchors a_lengths a_steps a_found a_common a_list a_nexts a_names a_policyLeft a_room : Nat → Int32}
variable {gd : Nat → Bool} {c : Nat} {P : List Nat}
theorem tp_yGo162 {post : Int32 → SY → Prop} {x5 : Int32} {r : Nat} (hc : c < 12) (hP : P.length ≤ 4)
    (h : post 1 (f_made, f_valid, a_issuers, a_subjects, a_issuerKeys, a_subjectKeys, a_froms, a_tos, a_terms, a_revoked, a_held, a_anchors, a_lengths, a_steps, a_found, a_common, a_list, upd a_nexts (P.length + 1) (nI 0), upd a_names (P.length + 1) ((a_names P.length &&& a_terms (5 * c + 2)) &&& (a_terms (5 * c + 3) ^^^ (-1))), upd a_policyLeft (P.length + 1) x5, upd a_room (P.length + 1) (nI r))) :
    wY_goOn_162 post (nI c) (nI P.length) x5 (nI r) (nI P.length + 1) f_made f_valid a_issuers a_subjects a_issuerKeys a_subjectKeys a_froms a_tos a_terms a_revoked a_held a_anchors a_lengths a_steps a_found a_common a_list a_nexts a_names a_policyLeft a_room := by
  have el : (nI P.length).toNatClampNeg = P.length := nI_clamp (by omega)
  have il : vp_in (nI P.length) 7 := vp_in_nI (by omega) (by omega)
  have el1 : (nI (P.length + 1)).toNatClampNeg = P.length + 1 := nI_clamp (by omega)
  have il1 : vp_in (nI (P.length + 1)) 7 := vp_in_nI (by omega) (by omega)
  have e2 : ((5 : Int32) * nI c + 2).toNatClampNeg = 5 * c + 2 := by rw [show (2 : Int32) = nI 2 from rfl, tp_mul5a]; exact nI_clamp (by omega)
  have i2 : vp_in ((5 : Int32) * nI c + 2) 60 := by rw [show (2 : Int32) = nI 2 from rfl, tp_mul5a]; exact vp_in_nI (by omega) (by omega)
  have e3 : ((5 : Int32) * nI c + 3).toNatClampNeg = 5 * c + 3 := by rw [show (3 : Int32) = nI 3 from rfl, tp_mul5a]; exact nI_clamp (by omega)
  have i3 : vp_in ((5 : Int32) * nI c + 3) 60 := by rw [show (3 : Int32) = nI 3 from rfl, tp_mul5a]; exact vp_in_nI (by omega) (by omega)
  simp only [wY_goOn_162, nI_1, el, el1, e2, e3]
  exact ⟨il1, nm_e ⟨il1, nm_e ⟨il, i2, i3, il1, nm_e ⟨il1, nm_e h⟩⟩⟩⟩
theorem tp_rm_next {d r m lf cg lim : Nat} (hd : d ≤ 4) (h : tp_rm d r m) (hl : lim < 5) (hc : (lf = r ∧ cg = m) ∨ (lf + 1 = r ∧ cg = (if m = 4 then m else m - 1))) :
    tp_rm (d + 1) (if lim < 4 ∧ lim < lf then lim else lf) (if cg ≤ lim then cg else lim) := by
  unfold tp_rm at h ⊢
  rcases hc with ⟨e1, e2⟩ | ⟨e1, e2⟩
  · rcases h with h | h
    · split <;> split <;> omega
    · split <;> split <;> omega
  · rcases h with h | h
    · rw [if_neg (by omega)] at e2
      split <;> split <;> omega
    · rw [if_pos h.1] at e2
      split <;> split <;> omega
theorem tp_yGo116 {post : Int32 → SY → Prop} {x5 : Int32} {lf lim : Nat} (hc : c < 12) (hP : P.length ≤ 4) (hlim : a_terms (5 * c + 1) = nI lim) (hl : lim < 5) (hlf : lf ≤ 100)
    (h : post 1 (f_made, f_valid, a_issuers, a_subjects, a_issuerKeys, a_subjectKeys, a_froms, a_tos, a_terms, a_revoked, a_held, a_anchors, a_lengths, a_steps, a_found, a_common, upd a_list P.length (nI c), upd a_nexts (P.length + 1) (nI 0), upd a_names (P.length + 1) ((a_names P.length &&& a_terms (5 * c + 2)) &&& (a_terms (5 * c + 3) ^^^ (-1))), upd a_policyLeft (P.length + 1) x5, upd a_room (P.length + 1) (nI (if lim < 4 ∧ lim < lf then lim else lf)))) :
    wY_goOn_116 post (nI c) (nI P.length) (nI lf) x5 f_made f_valid a_issuers a_subjects a_issuerKeys a_subjectKeys a_froms a_tos a_terms a_revoked a_held a_anchors a_lengths a_steps a_found a_common a_list a_nexts a_names a_policyLeft a_room := by
  have el : (nI P.length).toNatClampNeg = P.length := nI_clamp (by omega)
  have e1 : ((5 : Int32) * nI c + 1).toNatClampNeg = 5 * c + 1 := by rw [show (1 : Int32) = nI 1 from rfl, tp_mul5a]; exact nI_clamp (by omega)
  have i1 : vp_in ((5 : Int32) * nI c + 1) 60 := by rw [show (1 : Int32) = nI 1 from rfl, tp_mul5a]; exact vp_in_nI (by omega) (by omega)
  simp only [wY_goOn_116, wY_goOn_160, el, e1]
  refine ⟨vp_in_nI (by omega) (by omega), nm_e ⟨i1, nm_r hlim (pk_le 4 lim (fun y => ?_) (fun y => pk_le lf lim (fun w => ?_) (fun w => ?_)))⟩⟩
  · rw [if_neg (by omega)] at h
    exact tp_yGo162 hc hP h
  · rw [if_neg (by omega)] at h
    exact tp_yGo162 hc hP h
  · rw [if_pos ⟨y, w⟩] at h
    exact tp_yGo162 hc hP h
theorem tp_yGo42 {post : Int32 → SY → Prop} {x3 : Int32} {r lf lim : Nat} {z0 : Int32} (hc : c < 12) (hP : P.length ≤ 5) (hlim : a_terms (5 * c + 1) = nI lim) (hl : lim < 5) (hgd : gd c = true) (hfl : tp_fl (gd, a_issuers, a_issuerKeys, a_subjects, a_subjectKeys, a_terms, a_anchors) (tp_run (gd, a_issuers, a_issuerKeys, a_subjects, a_subjectKeys, a_terms, a_anchors) tp_s0 P).1 c = true)
    (hna : a_names P.length = (tp_run (gd, a_issuers, a_issuerKeys, a_subjects, a_subjectKeys, a_terms, a_anchors) tp_s0 P).2.1) (hpl : a_policyLeft P.length = (tp_run (gd, a_issuers, a_issuerKeys, a_subjects, a_subjectKeys, a_terms, a_anchors) tp_s0 P).2.2.2) (hrm : tp_rm P.length r (tp_run (gd, a_issuers, a_issuerKeys, a_subjects, a_subjectKeys, a_terms, a_anchors) tp_s0 P).2.2.1)
    (hz : (z0 = -1 ∧ r = 0 ∧ x3 = 0) ∨ (z0 = nI lf ∧ ((lf = r ∧ ¬ x3 = 0) ∨ (lf + 1 = r ∧ x3 = 0)))) (hx3 : x3 = 0 ↔ ¬ a_issuers c = a_subjects c)
    (hno : ¬ (P.length ≠ 5 ∧ tp_Ok (gd, a_issuers, a_issuerKeys, a_subjects, a_subjectKeys, a_terms, a_anchors) (tp_run (gd, a_issuers, a_issuerKeys, a_subjects, a_subjectKeys, a_terms, a_anchors) tp_s0 P) c) → post 0 (f_made, f_valid, a_issuers, a_subjects, a_issuerKeys, a_subjectKeys, a_froms, a_tos, a_terms, a_revoked, a_held, a_anchors, a_lengths, a_steps, a_found, a_common, a_list, a_nexts, a_names, a_policyLeft, a_room))
    (hyes : P.length ≠ 5 → tp_Ok (gd, a_issuers, a_issuerKeys, a_subjects, a_subjectKeys, a_terms, a_anchors) (tp_run (gd, a_issuers, a_issuerKeys, a_subjects, a_subjectKeys, a_terms, a_anchors) tp_s0 P) c → ∀ r', tp_rm (P.length + 1) r' (tp_nx (gd, a_issuers, a_issuerKeys, a_subjects, a_subjectKeys, a_terms, a_anchors) (tp_run (gd, a_issuers, a_issuerKeys, a_subjects, a_subjectKeys, a_terms, a_anchors) tp_s0 P) c).2.2.1 →
      post 1 (f_made, f_valid, a_issuers, a_subjects, a_issuerKeys, a_subjectKeys, a_froms, a_tos, a_terms, a_revoked, a_held, a_anchors, a_lengths, a_steps, a_found, a_common, upd a_list P.length (nI c), upd a_nexts (P.length + 1) (nI 0), upd a_names (P.length + 1) (tp_nx (gd, a_issuers, a_issuerKeys, a_subjects, a_subjectKeys, a_terms, a_anchors) (tp_run (gd, a_issuers, a_issuerKeys, a_subjects, a_subjectKeys, a_terms, a_anchors) tp_s0 P) c).2.1, upd a_policyLeft (P.length + 1) (tp_nx (gd, a_issuers, a_issuerKeys, a_subjects, a_subjectKeys, a_terms, a_anchors) (tp_run (gd, a_issuers, a_issuerKeys, a_subjects, a_subjectKeys, a_terms, a_anchors) tp_s0 P) c).2.2.2, upd a_room (P.length + 1) (nI r'))) :
    wY_goOn_42 post (nI c) (nI P.length) x3 z0 f_made f_valid a_issuers a_subjects a_issuerKeys a_subjectKeys a_froms a_tos a_terms a_revoked a_held a_anchors a_lengths a_steps a_found a_common a_list a_nexts a_names a_policyLeft a_room := by
  have e : (nI c).toNatClampNeg = c := nI_clamp (by omega)
  have hi : vp_in (nI c) 12 := vp_in_nI hc (by omega)
  have el : (nI P.length).toNatClampNeg = P.length := nI_clamp (by omega)
  have il : vp_in (nI P.length) 7 := vp_in_nI (by omega) (by omega)
  have e0 : ((5 : Int32) * nI c).toNatClampNeg = 5 * c := by rw [tp_mul5]; exact nI_clamp (by omega)
  have i0 : vp_in ((5 : Int32) * nI c) 60 := by rw [tp_mul5]; exact vp_in_nI (by omega) (by omega)
  have e4 : ((5 : Int32) * nI c + 4).toNatClampNeg = 5 * c + 4 := by rw [show (4 : Int32) = nI 4 from rfl, tp_mul5a]; exact nI_clamp (by omega)
  have i4 : vp_in ((5 : Int32) * nI c + 4) 60 := by rw [show (4 : Int32) = nI 4 from rfl, tp_mul5a]; exact vp_in_nI (by omega) (by omega)
  have hrb : r ≤ 100 := by
    rcases hrm with y | y <;> omega
  have hL : tp_lim a_terms c = lim := by unfold tp_lim; rw [hlim]; exact nI_clamp (by omega)
  simp only [wY_goOn_42, e, el, e0, e4]
  refine ⟨il, i4, nm_e (pk_eq P.length 5 (fun y => hno (fun z => z.1 y)) (fun h5 => ⟨i0, br_c (fun y => hno (fun z => z.2.2.2.1 y)) (fun b0 => ?_)⟩))⟩
  rcases hz with ⟨rfl, hr0, hx0⟩ | ⟨rfl, hlf⟩
  · refine br_t (by decide) (hno (fun z => ?_))
    have := (z.2.2.2.2.2 (hx3.mp hx0)).1
    rcases hrm with y | y <;> omega
  · have hlfb : lf ≤ 100 := by rcases hlf with y | y <;> omega
    refine br_f (nI_pos (by omega)) (br_c (fun y => hno (fun z => z.2.2.2.2.1 (by rw [← hpl]; exact y))) (fun b3 => ?_))
    have fin : tp_Ok (gd, a_issuers, a_issuerKeys, a_subjects, a_subjectKeys, a_terms, a_anchors) (tp_run (gd, a_issuers, a_issuerKeys, a_subjects, a_subjectKeys, a_terms, a_anchors) tp_s0 P) c → wY_goOn_116 post (nI c) (nI P.length) (nI lf) (a_policyLeft P.length &&& a_terms (5 * c + 4)) f_made f_valid a_issuers a_subjects a_issuerKeys a_subjectKeys a_froms a_tos a_terms a_revoked a_held a_anchors a_lengths a_steps a_found a_common a_list a_nexts a_names a_policyLeft a_room := by
      intro k
      refine tp_yGo116 hc (by omega) hlim hl hlfb ?_
      have hr' : tp_rm (P.length + 1) (if lim < 4 ∧ lim < lf then lim else lf) (tp_nx (gd, a_issuers, a_issuerKeys, a_subjects, a_subjectKeys, a_terms, a_anchors) (tp_run (gd, a_issuers, a_issuerKeys, a_subjects, a_subjectKeys, a_terms, a_anchors) tp_s0 P) c).2.2.1 := by
        show tp_rm (P.length + 1) (if lim < 4 ∧ lim < lf then lim else lf) (if tp_cg (gd, a_issuers, a_issuerKeys, a_subjects, a_subjectKeys, a_terms, a_anchors) (tp_run (gd, a_issuers, a_issuerKeys, a_subjects, a_subjectKeys, a_terms, a_anchors) tp_s0 P) c ≤ tp_lim a_terms c then tp_cg (gd, a_issuers, a_issuerKeys, a_subjects, a_subjectKeys, a_terms, a_anchors) (tp_run (gd, a_issuers, a_issuerKeys, a_subjects, a_subjectKeys, a_terms, a_anchors) tp_s0 P) c else tp_lim a_terms c)
        rw [hL]
        refine tp_rm_next (by omega) hrm hl ?_
        rcases hlf with ⟨y1, y2⟩ | ⟨y1, y2⟩
        · refine Or.inl ⟨y1, if_pos (Or.inl ?_)⟩
          by_cases w : a_issuers c = a_subjects c
          · exact w
          · exact absurd (hx3.mpr w) y2
        · refine Or.inr ⟨y1, ?_⟩
          have w : ¬ a_issuers c = a_subjects c := hx3.mp y2
          by_cases w4 : (tp_run (gd, a_issuers, a_issuerKeys, a_subjects, a_subjectKeys, a_terms, a_anchors) tp_s0 P).2.2.1 = 4
          · rw [if_pos w4]
            exact if_pos (Or.inr w4)
          · rw [if_neg w4]
            exact if_neg (fun z => z.elim w w4)
      have H := hyes h5 k _ hr'
      rw [hna, hpl]
      exact H
    refine br_c (fun y => ⟨il, hi, ?_⟩) (fun y => fin ⟨hgd, hfl, b0, by rw [← hpl]; exact b3, fun z => absurd (hx3.mpr z) y⟩)
    have ns : ¬ a_issuers c = a_subjects c := hx3.mp y
    have hm0 : ¬ (tp_run (gd, a_issuers, a_issuerKeys, a_subjects, a_subjectKeys, a_terms, a_anchors) tp_s0 P).2.2.1 = 0 := by
      rcases hlf with ⟨y1, y2⟩ | ⟨y1, y2⟩
      · exact absurd y y2
      · rcases hrm with w | w <;> omega
    rw [hna]
    refine tp_yHas (fun w => br_f (by decide) ?_) (fun w => br_t rfl (hno (fun z => w (z.2.2.2.2.2 ns).2)))
    exact fin ⟨hgd, hfl, b0, by rw [← hpl]; exact b3, fun _ => ⟨hm0, w⟩⟩
theorem tp_yGoOn {post : Int32 → SY → Prop} {r lim : Nat} (hc : c < 12) (hP : P.length ≤ 5) (hlim : a_terms (5 * c + 1) = nI lim) (hl : lim < 5) (hgd : gd c = true) (hfl : tp_fl (gd, a_issuers, a_issuerKeys, a_subjects, a_subjectKeys, a_terms, a_anchors) (tp_run (gd, a_issuers, a_issuerKeys, a_subjects, a_subjectKeys, a_terms, a_anchors) tp_s0 P).1 c = true)
    (hna : a_names P.length = (tp_run (gd, a_issuers, a_issuerKeys, a_subjects, a_subjectKeys, a_terms, a_anchors) tp_s0 P).2.1) (hpl : a_policyLeft P.length = (tp_run (gd, a_issuers, a_issuerKeys, a_subjects, a_subjectKeys, a_terms, a_anchors) tp_s0 P).2.2.2) (hro : a_room P.length = nI r) (hrm : tp_rm P.length r (tp_run (gd, a_issuers, a_issuerKeys, a_subjects, a_subjectKeys, a_terms, a_anchors) tp_s0 P).2.2.1)
    (hno : ¬ (P.length ≠ 5 ∧ tp_Ok (gd, a_issuers, a_issuerKeys, a_subjects, a_subjectKeys, a_terms, a_anchors) (tp_run (gd, a_issuers, a_issuerKeys, a_subjects, a_subjectKeys, a_terms, a_anchors) tp_s0 P) c) → post 0 (f_made, f_valid, a_issuers, a_subjects, a_issuerKeys, a_subjectKeys, a_froms, a_tos, a_terms, a_revoked, a_held, a_anchors, a_lengths, a_steps, a_found, a_common, a_list, a_nexts, a_names, a_policyLeft, a_room))
    (hyes : P.length ≠ 5 → tp_Ok (gd, a_issuers, a_issuerKeys, a_subjects, a_subjectKeys, a_terms, a_anchors) (tp_run (gd, a_issuers, a_issuerKeys, a_subjects, a_subjectKeys, a_terms, a_anchors) tp_s0 P) c → ∀ r', tp_rm (P.length + 1) r' (tp_nx (gd, a_issuers, a_issuerKeys, a_subjects, a_subjectKeys, a_terms, a_anchors) (tp_run (gd, a_issuers, a_issuerKeys, a_subjects, a_subjectKeys, a_terms, a_anchors) tp_s0 P) c).2.2.1 →
      post 1 (f_made, f_valid, a_issuers, a_subjects, a_issuerKeys, a_subjectKeys, a_froms, a_tos, a_terms, a_revoked, a_held, a_anchors, a_lengths, a_steps, a_found, a_common, upd a_list P.length (nI c), upd a_nexts (P.length + 1) (nI 0), upd a_names (P.length + 1) (tp_nx (gd, a_issuers, a_issuerKeys, a_subjects, a_subjectKeys, a_terms, a_anchors) (tp_run (gd, a_issuers, a_issuerKeys, a_subjects, a_subjectKeys, a_terms, a_anchors) tp_s0 P) c).2.1, upd a_policyLeft (P.length + 1) (tp_nx (gd, a_issuers, a_issuerKeys, a_subjects, a_subjectKeys, a_terms, a_anchors) (tp_run (gd, a_issuers, a_issuerKeys, a_subjects, a_subjectKeys, a_terms, a_anchors) tp_s0 P) c).2.2.2, upd a_room (P.length + 1) (nI r'))) :
    wpY_goOn post (f_made, f_valid, a_issuers, a_subjects, a_issuerKeys, a_subjectKeys, a_froms, a_tos, a_terms, a_revoked, a_held, a_anchors, a_lengths, a_steps, a_found, a_common, a_list, a_nexts, a_names, a_policyLeft, a_room) (nI c) (nI P.length) := by
  have e : (nI c).toNatClampNeg = c := nI_clamp (by omega)
  have hi : vp_in (nI c) 12 := vp_in_nI hc (by omega)
  have el : (nI P.length).toNatClampNeg = P.length := nI_clamp (by omega)
  have il : vp_in (nI P.length) 7 := vp_in_nI (by omega) (by omega)
  simp only [wpY_goOn, e]
  refine ⟨hi, hi, br_c (fun a => ?_) (fun a => ?_)⟩
  · simp only [wY_goOn_20, el, hro]
    refine br_f (by decide) ⟨il, ?_⟩
    exact tp_yGo42 (gd := gd) (r := r) (lf := r) hc hP hlim hl hgd hfl hna hpl hrm (Or.inr ⟨rfl, Or.inl ⟨rfl, by decide⟩⟩) ⟨fun z => absurd z (by decide), fun z => absurd a z⟩ hno hyes
  · simp only [wY_goOn_20, el, hro]
    refine br_t (by trivial) ⟨il, ?_⟩
    rcases Nat.eq_zero_or_pos r with z | z
    · subst z
      exact tp_yGo42 (gd := gd) (r := 0) (lf := 0) hc hP hlim hl hgd hfl hna hpl hrm (Or.inl ⟨by decide, rfl, rfl⟩) ⟨fun _ => a, fun _ => rfl⟩ hno hyes
    · have e1 : nI r - 1 = nI (r - 1) := by
        obtain ⟨w, hw⟩ : ∃ w, r = w + 1 := ⟨r - 1, by omega⟩
        rw [hw, nI_pred]
        rfl
      rw [e1]
      exact tp_yGo42 (gd := gd) (r := r) (lf := r - 1) hc hP hlim hl hgd hfl hna hpl hrm (Or.inr ⟨rfl, Or.inr ⟨by omega, rfl⟩⟩) ⟨fun _ => a, fun _ => rfl⟩ hno hyes
end
end
section
/-! the reference's search: every list once -/
def tp_B : Nat → Nat
  | 0 => 0
  | r + 1 => 1 + 12 * (1 + tp_B r)
section
variable {f_made f_valid : Int32} {a_issuers a_subjects a_issuerKeys a_subjectKeys a_froms a_tos a_terms a_revoked a_held a_anchors : Nat → Int32}
variable {gd : Nat → Bool} {n : Nat}
/-- one level of the search, if the next one is known -/
theorem tp_yLevel {post : SY → Prop} (hn : n ≤ 12) (hgn : ∀ x, gd x = true → x < n) (hV : ∀ c, c < n → (bt f_valid c = true ↔ gd c = true)) (hR : tp_Rg n a_issuers a_issuerKeys a_subjects a_subjectKeys)
    (hL : ∀ c, c < n → ∃ lim, lim < 5 ∧ a_terms (5 * c + 1) = nI lim) (rr : Nat)
    (ihr : ∀ rr', rr = rr' + 1 → ∀ (P : List Nat), P.length + rr' = 5 → tp_ok (gd, a_issuers, a_issuerKeys, a_subjects, a_subjectKeys, a_terms, a_anchors) tp_s0 P → P.Nodup → ∀ (k i : Nat), i + k = n → ∀ (M : Nat) (E : List Nat → Nat → Prop) (ln st fo co li nx na pl ro : Nat → Int32) (r : Nat),
      tp_Acc (gd, a_issuers, a_issuerKeys, a_subjects, a_subjectKeys, a_terms, a_anchors) E ln st fo co → (∀ P' c', E P' c' → tp_Ev (gd, a_issuers, a_issuerKeys, a_subjects, a_subjectKeys, a_terms, a_anchors) P' c' ∧ tp_pos P' c' < tp_pos P i) → (∀ (j x : Nat), P[j]? = some x → li j = nI x) →
      na P.length = (tp_run (gd, a_issuers, a_issuerKeys, a_subjects, a_subjectKeys, a_terms, a_anchors) tp_s0 P).2.1 → pl P.length = (tp_run (gd, a_issuers, a_issuerKeys, a_subjects, a_subjectKeys, a_terms, a_anchors) tp_s0 P).2.2.2 → ro P.length = nI r → tp_rm P.length r (tp_run (gd, a_issuers, a_issuerKeys, a_subjects, a_subjectKeys, a_terms, a_anchors) tp_s0 P).2.2.1 → nx P.length = nI i →
      (∀ ln' st' fo' co' li' nx' na' pl' ro' : Nat → Int32, tp_Acc (gd, a_issuers, a_issuerKeys, a_subjects, a_subjectKeys, a_terms, a_anchors) (fun P' c' => E P' c' ∨ tp_Sub (gd, a_issuers, a_issuerKeys, a_subjects, a_subjectKeys, a_terms, a_anchors) P i P' c') ln' st' fo' co' → (∀ j, j < P.length → li' j = li j ∧ nx' j = nx j) → (∀ j, j ≤ P.length → na' j = na j ∧ pl' j = pl j ∧ ro' j = ro j) →
        ∀ m, M ≤ m → wY_search_74 post m (nI P.length + (-1)) (nI n) f_valid a_issuers a_subjects a_issuerKeys a_subjectKeys a_froms a_tos a_terms a_revoked a_held a_anchors ln' st' fo' co' li' nx' na' pl' ro') →
      ∀ m, M + 1 + k * (1 + tp_B rr') ≤ m → wY_search_74 post m (nI P.length) (nI n) f_valid a_issuers a_subjects a_issuerKeys a_subjectKeys a_froms a_tos a_terms a_revoked a_held a_anchors ln st fo co li nx na pl ro) :
    ∀ (P : List Nat), P.length + rr = 5 → tp_ok (gd, a_issuers, a_issuerKeys, a_subjects, a_subjectKeys, a_terms, a_anchors) tp_s0 P → P.Nodup → ∀ (k i : Nat), i + k = n → ∀ (M : Nat) (E : List Nat → Nat → Prop) (ln st fo co li nx na pl ro : Nat → Int32) (r : Nat),
      tp_Acc (gd, a_issuers, a_issuerKeys, a_subjects, a_subjectKeys, a_terms, a_anchors) E ln st fo co → (∀ P' c', E P' c' → tp_Ev (gd, a_issuers, a_issuerKeys, a_subjects, a_subjectKeys, a_terms, a_anchors) P' c' ∧ tp_pos P' c' < tp_pos P i) → (∀ (j x : Nat), P[j]? = some x → li j = nI x) →
      na P.length = (tp_run (gd, a_issuers, a_issuerKeys, a_subjects, a_subjectKeys, a_terms, a_anchors) tp_s0 P).2.1 → pl P.length = (tp_run (gd, a_issuers, a_issuerKeys, a_subjects, a_subjectKeys, a_terms, a_anchors) tp_s0 P).2.2.2 → ro P.length = nI r → tp_rm P.length r (tp_run (gd, a_issuers, a_issuerKeys, a_subjects, a_subjectKeys, a_terms, a_anchors) tp_s0 P).2.2.1 → nx P.length = nI i →
      (∀ ln' st' fo' co' li' nx' na' pl' ro' : Nat → Int32, tp_Acc (gd, a_issuers, a_issuerKeys, a_subjects, a_subjectKeys, a_terms, a_anchors) (fun P' c' => E P' c' ∨ tp_Sub (gd, a_issuers, a_issuerKeys, a_subjects, a_subjectKeys, a_terms, a_anchors) P i P' c') ln' st' fo' co' → (∀ j, j < P.length → li' j = li j ∧ nx' j = nx j) → (∀ j, j ≤ P.length → na' j = na j ∧ pl' j = pl j ∧ ro' j = ro j) →
        ∀ m, M ≤ m → wY_search_74 post m (nI P.length + (-1)) (nI n) f_valid a_issuers a_subjects a_issuerKeys a_subjectKeys a_froms a_tos a_terms a_revoked a_held a_anchors ln' st' fo' co' li' nx' na' pl' ro') →
      ∀ m, M + 1 + k * (1 + tp_B rr) ≤ m → wY_search_74 post m (nI P.length) (nI n) f_valid a_issuers a_subjects a_issuerKeys a_subjectKeys a_froms a_tos a_terms a_revoked a_held a_anchors ln st fo co li nx na pl ro := by
  have hg12 : ∀ x, gd x = true → x < 12 := fun x hx => Nat.lt_of_lt_of_le (hgn x hx) hn
  intro P hP okP ndP k
  have hPx : ∀ x, x ∈ P → x < n := fun x hx => hgn x (tp_ok_gd (g := (gd, a_issuers, a_issuerKeys, a_subjects, a_subjectKeys, a_terms, a_anchors)) P _ okP x hx)
  have hPx12 : ∀ x, x ∈ P → x < 12 := fun x hx => Nat.lt_of_lt_of_le (hPx x hx) hn
  have il : vp_in (nI P.length) 7 := vp_in_nI (by omega) (by omega)
  have el : (nI P.length).toNatClampNeg = P.length := nI_clamp (by omega)
  induction k with
  | zero =>
    intro i hi M E ln st fo co li nx na pl ro r A hE hli hna hpl hro hrm hnx K m hm
    obtain ⟨m, rfl⟩ : ∃ m', m = m' + 1 := ⟨m - 1, by omega⟩
    simp only [wY_search_74, el, hnx]
    refine br_f (nI_pos (by omega)) ⟨il, nm_e ⟨il, il, nm_e (br_f (nI_nlt (by omega) (by omega)) (nm_e (K ln st fo co li _ na pl ro ?_ ?_ ?_ m (by omega))))⟩⟩
    · exact tp_Acc_eq A (fun P' c' => ⟨Or.inl, fun z => z.elim id (fun w => absurd w (tp_Sub_end (g := (gd, a_issuers, a_issuerKeys, a_subjects, a_subjectKeys, a_terms, a_anchors)) hgn (by omega)))⟩)
    · intro j hj
      exact ⟨rfl, pk_un (by omega)⟩
    · intro j hj
      exact ⟨rfl, rfl, rfl⟩
  | succ k ihk =>
    intro i hi M E ln st fo co li nx na pl ro r A hE hli hna hpl hro hrm hnx K m hm
    obtain ⟨m, rfl⟩ : ∃ m', m = m' + 1 := ⟨m - 1, by omega⟩
    have hmm : (k + 1) * (1 + tp_B rr) = k * (1 + tp_B rr) + (1 + tp_B rr) := Nat.succ_mul _ _
    have hin : i < n := by omega
    have hi12 : i < 12 := by omega
    have go : ∀ (E1 : List Nat → Nat → Prop) (ln1 st1 fo1 co1 li1 nx1 na1 pl1 ro1 : Nat → Int32), tp_Acc (gd, a_issuers, a_issuerKeys, a_subjects, a_subjectKeys, a_terms, a_anchors) E1 ln1 st1 fo1 co1 → (∀ P' c', (E1 P' c' ∨ tp_Sub (gd, a_issuers, a_issuerKeys, a_subjects, a_subjectKeys, a_terms, a_anchors) P (i + 1) P' c') ↔ (E P' c' ∨ tp_Sub (gd, a_issuers, a_issuerKeys, a_subjects, a_subjectKeys, a_terms, a_anchors) P i P' c')) →
        (∀ P' c', E1 P' c' → tp_Ev (gd, a_issuers, a_issuerKeys, a_subjects, a_subjectKeys, a_terms, a_anchors) P' c' ∧ tp_pos P' c' < tp_pos P (i + 1)) → (∀ j, j < P.length → li1 j = li j ∧ nx1 j = nx j) → nx1 P.length = nI (i + 1) → (∀ j, j ≤ P.length → na1 j = na j ∧ pl1 j = pl j ∧ ro1 j = ro j) →
        ∀ m', M + 1 + k * (1 + tp_B rr) ≤ m' → wY_search_74 post m' (nI P.length) (nI n) f_valid a_issuers a_subjects a_issuerKeys a_subjectKeys a_froms a_tos a_terms a_revoked a_held a_anchors ln1 st1 fo1 co1 li1 nx1 na1 pl1 ro1 := by
      intro E1 ln1 st1 fo1 co1 li1 nx1 na1 pl1 ro1 A1 hEE hE1 hf1 hf2 hf3 m' hm'
      have h3 := hf3 P.length (Nat.le_refl _)
      refine ihk (i + 1) (by omega) M E1 ln1 st1 fo1 co1 li1 nx1 na1 pl1 ro1 r A1 hE1 ?_ (by rw [h3.1]; exact hna) (by rw [h3.2.1]; exact hpl) (by rw [h3.2.2]; exact hro) hrm hf2 ?_ m' hm'
      · intro j x hj
        have hj2 : j < P.length := by
          obtain ⟨z, _⟩ := List.getElem?_eq_some_iff.mp hj
          exact z
        rw [(hf1 j hj2).1]
        exact hli j x hj
      · intro ln' st' fo' co' li' nx' na' pl' ro' A' g1 g2 m2 hm2
        refine K ln' st' fo' co' li' nx' na' pl' ro' (tp_Acc_eq A' hEE) ?_ ?_ m2 hm2
        · intro j hj
          exact ⟨(g1 j hj).1.trans (hf1 j hj).1, (g1 j hj).2.trans (hf1 j hj).2⟩
        · intro j hj
          exact ⟨(g2 j hj).1.trans (hf3 j hj).1, (g2 j hj).2.1.trans (hf3 j hj).2.1, (g2 j hj).2.2.trans (hf3 j hj).2.2⟩
    have n1 : upd nx P.length (nI i + 1) P.length = nI (i + 1) := by rw [pk_us, nI_1]
    have n2 : ∀ j, j < P.length → li j = li j ∧ upd nx P.length (nI i + 1) j = nx j := fun j hj => ⟨rfl, pk_un (by omega)⟩
    have skip : ¬ tp_Ev (gd, a_issuers, a_issuerKeys, a_subjects, a_subjectKeys, a_terms, a_anchors) P i → (P.length = 5 ∨ i ∈ P ∨ ¬ tp_Ok (gd, a_issuers, a_issuerKeys, a_subjects, a_subjectKeys, a_terms, a_anchors) (tp_run (gd, a_issuers, a_issuerKeys, a_subjects, a_subjectKeys, a_terms, a_anchors) tp_s0 P) i) → wY_search_74 post m (nI P.length) (nI n) f_valid a_issuers a_subjects a_issuerKeys a_subjectKeys a_froms a_tos a_terms a_revoked a_held a_anchors ln st fo co li (upd nx P.length (nI i + 1)) na pl ro := by
      intro ne no
      refine go E ln st fo co li _ na pl ro A ?_ ?_ n2 n1 (fun _ _ => ⟨rfl, rfl, rfl⟩) m (by omega)
      · intro P' c'
        rw [tp_Sub_step (g := (gd, a_issuers, a_issuerKeys, a_subjects, a_subjectKeys, a_terms, a_anchors)) (P := P) (i := i)]
        exact ⟨fun z => z.elim Or.inl (fun y => Or.inr (Or.inr (Or.inr y))), fun z => z.elim Or.inl (fun y => y.elim (fun w => absurd w.1 ne) (fun y => y.elim (fun w => absurd w (tp_Sub_no no)) Or.inr))⟩
      · intro P' c' z
        exact ⟨(hE P' c' z).1, Nat.lt_trans (hE P' c' z).2 tp_pos_s⟩
    simp only [wY_search_74, el, hnx]
    refine br_f (nI_pos (by omega)) ⟨il, nm_e ⟨il, il, nm_e (br_t (nI_lt hin (by omega)) ?_)⟩⟩
    refine tp_yHas (fun b1 => br_f (by decide) ?_) (fun b1 => br_t rfl ?_)
    case refine_2 =>
      have ng : ¬ gd i = true := fun z => b1 ((tp_has (by omega)).mpr ((hV i hin).mpr z))
      exact skip (fun z => ng z.2.2.2.1) (Or.inr (Or.inr (fun z => ng z.1)))
    have hgi : gd i = true := (hV i hin).mp ((tp_has (by omega)).mp b1)
    refine tp_yFollows (gd := gd) hn hin hR (by omega) hPx hli (fun b2 => br_f (by decide) ?_) (fun b2 => br_t rfl (skip (fun z => b2 z.2.2.2.2.1) (Or.inr (Or.inr (fun z => b2 z.2.1)))))
    refine tp_yUsed hi12 (by omega) hPx12 hli (fun b3 => br_f (by decide) (skip (fun z => (tp_nodup_snoc.mp z.2.1).2 b3) (Or.inr (Or.inl b3)))) (fun b3 => br_t rfl ?_)
    have hEs : ∀ P', E P' i → P'.length = P.length → tp_sl P' ≤ tp_sl P := fun P' z l => tp_pos_le (hE P' i z).2 l
    have hEx : ∀ P', E P' i → ∀ x, x ∈ P' → x < 12 := fun P' z x hx => tp_Ev_lt (g := (gd, a_issuers, a_issuerKeys, a_subjects, a_subjectKeys, a_terms, a_anchors)) hg12 (hE P' i z).1 x (List.mem_append_left _ hx)
    have ndi : (P ++ [i]).Nodup := tp_nodup_snoc.mpr ⟨ndP, b3⟩
    obtain ⟨lim, hl1, hl2⟩ := hL i hin
    -- what comes behind end, whatever it has noted
    have rest : ∀ (E1 : List Nat → Nat → Prop) (ln1 st1 fo1 co1 : Nat → Int32), tp_Acc (gd, a_issuers, a_issuerKeys, a_subjects, a_subjectKeys, a_terms, a_anchors) E1 ln1 st1 fo1 co1 → (∀ P' c', E1 P' c' ↔ (E P' c' ∨ (tp_Ev (gd, a_issuers, a_issuerKeys, a_subjects, a_subjectKeys, a_terms, a_anchors) P i ∧ P' = P ∧ c' = i))) →
        wpY_goOn (fun r_108 u => match u with
          | (f_made, f_valid, a_issuers, a_subjects, a_issuerKeys, a_subjectKeys, a_froms, a_tos, a_terms, a_revoked, a_held, a_anchors, a_lengths, a_steps, a_found, a_common, a_list, a_nexts, a_names, a_policyLeft, a_room) => ((r_108 = 0 → wY_search_74 post m (nI P.length) f_made f_valid a_issuers a_subjects a_issuerKeys a_subjectKeys a_froms a_tos a_terms a_revoked a_held a_anchors a_lengths a_steps a_found a_common a_list a_nexts a_names a_policyLeft a_room) ∧ (¬ r_108 = 0 → ∀ x2_131 : Int32, x2_131 = nI P.length + 1 → wY_search_74 post m x2_131 f_made f_valid a_issuers a_subjects a_issuerKeys a_subjectKeys a_froms a_tos a_terms a_revoked a_held a_anchors a_lengths a_steps a_found a_common a_list a_nexts a_names a_policyLeft a_room)))
          (nI n, f_valid, a_issuers, a_subjects, a_issuerKeys, a_subjectKeys, a_froms, a_tos, a_terms, a_revoked, a_held, a_anchors, ln1, st1, fo1, co1, li, upd nx P.length (nI i + 1), na, pl, ro) (nI i) (nI P.length) := by
      intro E1 ln1 st1 fo1 co1 A1 hE1
      have hb1 : ∀ P' c', E1 P' c' → tp_Ev (gd, a_issuers, a_issuerKeys, a_subjects, a_subjectKeys, a_terms, a_anchors) P' c' ∧ (tp_pos P' c' < tp_pos P i ∨ (P' = P ∧ c' = i)) := by
        intro P' c' z
        rcases (hE1 P' c').mp z with y | ⟨y1, y2, y3⟩
        · exact ⟨(hE P' c' y).1, Or.inl (hE P' c' y).2⟩
        · rw [y2, y3]
          exact ⟨y1, Or.inr ⟨rfl, rfl⟩⟩
      refine tp_yGoOn (gd := gd) (r := r) (lim := lim) hi12 (by omega) hl2 hl1 hgi b2 hna hpl hro hrm ?_ ?_
      · intro no
        refine br_t rfl (go E1 ln1 st1 fo1 co1 li _ na pl ro A1 ?_ ?_ n2 n1 (fun _ _ => ⟨rfl, rfl, rfl⟩) m (by omega))
        · intro P' c'
          rw [tp_Sub_step (g := (gd, a_issuers, a_issuerKeys, a_subjects, a_subjectKeys, a_terms, a_anchors)) (P := P) (i := i), hE1]
          have no2 : ¬ tp_Sub (gd, a_issuers, a_issuerKeys, a_subjects, a_subjectKeys, a_terms, a_anchors) (P ++ [i]) 0 P' c' := by
            by_cases y : P.length = 5
            · exact tp_Sub_no (Or.inl y)
            · exact tp_Sub_no (Or.inr (Or.inr (fun z => no ⟨y, z⟩)))
          exact ⟨fun z => z.elim (fun y => y.elim Or.inl (fun w => Or.inr (Or.inl w))) (fun y => Or.inr (Or.inr (Or.inr y))), fun z => z.elim (fun y => Or.inl (Or.inl y)) (fun y => y.elim (fun w => Or.inl (Or.inr w)) (fun y => y.elim (fun w => absurd w no2) Or.inr))⟩
        · intro P' c' z
          obtain ⟨y1, y2⟩ := hb1 P' c' z
          refine ⟨y1, ?_⟩
          rcases y2 with y2 | ⟨y2, y3⟩
          · exact Nat.lt_trans y2 tp_pos_s
          · rw [y2, y3]
            exact tp_pos_s
      · intro h5 okc r' hr'
        obtain ⟨rr', hrr⟩ : ∃ rr', rr = rr' + 1 := ⟨rr - 1, by omega⟩
        have hB : tp_B rr = 1 + 12 * (1 + tp_B rr') := by rw [hrr]; rfl
        have hB2 : n * (1 + tp_B rr') ≤ 12 * (1 + tp_B rr') := Nat.mul_le_mul_right _ hn
        have len1 : (P ++ [i]).length = P.length + 1 := tp_len_snoc P i
        have run1 : tp_run (gd, a_issuers, a_issuerKeys, a_subjects, a_subjectKeys, a_terms, a_anchors) tp_s0 (P ++ [i]) = tp_nx (gd, a_issuers, a_issuerKeys, a_subjects, a_subjectKeys, a_terms, a_anchors) (tp_run (gd, a_issuers, a_issuerKeys, a_subjects, a_subjectKeys, a_terms, a_anchors) tp_s0 P) i := tp_run_snoc _ _ _ _
        refine br_f (by decide) (nm_r (e' := nI (P ++ [i]).length) (by rw [nI_1, len1]) ?_)
        refine ihr rr' hrr (P ++ [i]) (by omega) ((tp_ok_snoc _ _ _ _).mpr ⟨okP, okc⟩) ndi n 0 (by omega) (M + 1 + k * (1 + tp_B rr)) E1 ln1 st1 fo1 co1 _ _ _ _ _ r' A1 ?_ ?_ ?_ ?_ ?_ ?_ ?_ ?_ m (by omega)
        · intro P' c' z
          obtain ⟨y1, y2⟩ := hb1 P' c' z
          refine ⟨y1, ?_⟩
          have hch : tp_pos P i < tp_pos (P ++ [i]) 0 := tp_pos_ch (by omega)
          rcases y2 with y2 | ⟨y2, y3⟩
          · exact Nat.lt_trans y2 hch
          · rw [y2, y3]
            exact hch
        · intro j x hj
          by_cases z : j = P.length
          · subst z
            rw [pk_us]
            rw [tp_get_mid P [] i] at hj
            rw [Option.some.inj hj]
          · have hj2 := tp_get_len hj
            rw [pk_un z]
            rw [List.getElem?_append_left (by omega)] at hj
            exact hli j x hj
        · rw [len1, pk_us, run1]
        · rw [len1, pk_us, run1]
        · rw [len1, pk_us]
        · rw [len1, run1]
          exact hr'
        · rw [len1, pk_us]
        · intro ln' st' fo' co' li' nx' na' pl' ro' A' g1 g2 m2 hm2
          rw [len1] at g1 g2 ⊢
          rw [pk_m1]
          refine go _ ln' st' fo' co' li' nx' na' pl' ro' A' ?_ ?_ ?_ ?_ ?_ m2 hm2
          · intro P' c'
            rw [tp_Sub_step (g := (gd, a_issuers, a_issuerKeys, a_subjects, a_subjectKeys, a_terms, a_anchors)) (P := P) (i := i), hE1]
            exact ⟨fun z => z.elim (fun y => y.elim (fun y => y.elim Or.inl (fun w => Or.inr (Or.inl w))) (fun w => Or.inr (Or.inr (Or.inl w)))) (fun y => Or.inr (Or.inr (Or.inr y))), fun z => z.elim (fun y => Or.inl (Or.inl (Or.inl y))) (fun y => y.elim (fun w => Or.inl (Or.inl (Or.inr w))) (fun y => y.elim (fun w => Or.inl (Or.inr w)) Or.inr))⟩
          · rintro P' c' (z | z)
            · obtain ⟨y1, y2⟩ := hb1 P' c' z
              refine ⟨y1, ?_⟩
              rcases y2 with y2 | ⟨y2, y3⟩
              · exact Nat.lt_trans y2 tp_pos_s
              · rw [y2, y3]
                exact tp_pos_s
            · refine ⟨z.1, ?_⟩
              obtain ⟨j, R, e, _⟩ := z.2
              have e2 : P' ++ [c'] = P ++ i :: (j :: R) := by rw [e, List.append_assoc]; rfl
              exact tp_pos_lt e2 z.1.1 (tp_Ev_lt (g := (gd, a_issuers, a_issuerKeys, a_subjects, a_subjectKeys, a_terms, a_anchors)) hg12 z.1)
          · intro j hj
            obtain ⟨y1, y2⟩ := g1 j (by omega)
            refine ⟨?_, ?_⟩
            · rw [y1, pk_un (by omega)]
            · rw [y2, pk_un (by omega), pk_un (by omega)]
          · rw [(g1 P.length (by omega)).2, pk_un (by omega)]
            exact n1
          · intro j hj
            obtain ⟨y1, y2, y3⟩ := g2 j (by omega)
            refine ⟨?_, ?_, ?_⟩
            · rw [y1, pk_un (by omega)]
            · rw [y2, pk_un (by omega)]
            · rw [y3, pk_un (by omega)]
    refine tp_yEnd (gd := gd) (E := E) A hi12 (by omega) hli hPx12 hEs hEx hna hpl ?_ ?_
    · intro no
      exact rest E ln st fo co A (fun P' c' => ⟨Or.inl, fun z => z.elim id (fun w => absurd ⟨w.1.2.2.2.2.2.1, w.1.2.2.2.2.2.2⟩ no)⟩)
    · intro yes ln' st' fo' co' A'
      have hev : tp_Ev (gd, a_issuers, a_issuerKeys, a_subjects, a_subjectKeys, a_terms, a_anchors) P i := ⟨by omega, ndi, okP, hgi, b2, yes.1, yes.2⟩
      exact rest _ ln' st' fo' co' A' (fun P' c' => ⟨fun z => z.elim Or.inl (fun w => Or.inr ⟨hev, w.1, w.2⟩), fun z => z.elim Or.inl (fun w => Or.inr ⟨w.2.1, w.2.2⟩)⟩)
theorem tp_ySearch74 {post : SY → Prop} (hn : n ≤ 12) (hgn : ∀ x, gd x = true → x < n) (hV : ∀ c, c < n → (bt f_valid c = true ↔ gd c = true)) (hR : tp_Rg n a_issuers a_issuerKeys a_subjects a_subjectKeys)
    (hL : ∀ c, c < n → ∃ lim, lim < 5 ∧ a_terms (5 * c + 1) = nI lim) : ∀ rr : Nat, ∀ (P : List Nat), P.length + rr = 5 → tp_ok (gd, a_issuers, a_issuerKeys, a_subjects, a_subjectKeys, a_terms, a_anchors) tp_s0 P → P.Nodup → ∀ (k i : Nat), i + k = n → ∀ (M : Nat) (E : List Nat → Nat → Prop) (ln st fo co li nx na pl ro : Nat → Int32) (r : Nat),
      tp_Acc (gd, a_issuers, a_issuerKeys, a_subjects, a_subjectKeys, a_terms, a_anchors) E ln st fo co → (∀ P' c', E P' c' → tp_Ev (gd, a_issuers, a_issuerKeys, a_subjects, a_subjectKeys, a_terms, a_anchors) P' c' ∧ tp_pos P' c' < tp_pos P i) → (∀ (j x : Nat), P[j]? = some x → li j = nI x) →
      na P.length = (tp_run (gd, a_issuers, a_issuerKeys, a_subjects, a_subjectKeys, a_terms, a_anchors) tp_s0 P).2.1 → pl P.length = (tp_run (gd, a_issuers, a_issuerKeys, a_subjects, a_subjectKeys, a_terms, a_anchors) tp_s0 P).2.2.2 → ro P.length = nI r → tp_rm P.length r (tp_run (gd, a_issuers, a_issuerKeys, a_subjects, a_subjectKeys, a_terms, a_anchors) tp_s0 P).2.2.1 → nx P.length = nI i →
      (∀ ln' st' fo' co' li' nx' na' pl' ro' : Nat → Int32, tp_Acc (gd, a_issuers, a_issuerKeys, a_subjects, a_subjectKeys, a_terms, a_anchors) (fun P' c' => E P' c' ∨ tp_Sub (gd, a_issuers, a_issuerKeys, a_subjects, a_subjectKeys, a_terms, a_anchors) P i P' c') ln' st' fo' co' → (∀ j, j < P.length → li' j = li j ∧ nx' j = nx j) → (∀ j, j ≤ P.length → na' j = na j ∧ pl' j = pl j ∧ ro' j = ro j) →
        ∀ m, M ≤ m → wY_search_74 post m (nI P.length + (-1)) (nI n) f_valid a_issuers a_subjects a_issuerKeys a_subjectKeys a_froms a_tos a_terms a_revoked a_held a_anchors ln' st' fo' co' li' nx' na' pl' ro') →
      ∀ m, M + 1 + k * (1 + tp_B rr) ≤ m → wY_search_74 post m (nI P.length) (nI n) f_valid a_issuers a_subjects a_issuerKeys a_subjectKeys a_froms a_tos a_terms a_revoked a_held a_anchors ln st fo co li nx na pl ro := by
  intro rr
  induction rr with
  | zero => exact tp_yLevel (gd := gd) hn hgn hV hR hL 0 (fun _ h => by omega)
  | succ rr ihr => exact tp_yLevel (gd := gd) hn hgn hV hR hL (rr + 1) (fun rr' h => by cases h; exact ihr)
end
section
variable {f_made f_valid : Int32} {a_issuers a_subjects a_issuerKeys a_subjectKeys a_froms a_tos a_terms a_revoked a_held a_anchors a_lengths a_steps a_found a_common a_list a_nexts a_names a_policyLeft a_room : Nat → Int32}
variable {gd : Nat → Bool} {n : Nat}
theorem tp_ySearch7 {post : SY → Prop} (hn : n ≤ 12) (hgn : ∀ x, gd x = true → x < n) (hV : ∀ c, c < n → (bt f_valid c = true ↔ gd c = true)) (hR : tp_Rg n a_issuers a_issuerKeys a_subjects a_subjectKeys)
    (hL : ∀ c, c < n → ∃ lim, lim < 5 ∧ a_terms (5 * c + 1) = nI lim)
    (h : ∀ ln st fo co li nx na pl ro : Nat → Int32, tp_Acc (gd, a_issuers, a_issuerKeys, a_subjects, a_subjectKeys, a_terms, a_anchors) (tp_Ev (gd, a_issuers, a_issuerKeys, a_subjects, a_subjectKeys, a_terms, a_anchors)) ln st fo co → post (nI n, f_valid, a_issuers, a_subjects, a_issuerKeys, a_subjectKeys, a_froms, a_tos, a_terms, a_revoked, a_held, a_anchors, ln, st, fo, co, li, nx, na, pl, ro)) :
    ∀ (f j : Nat) (ln fo co : Nat → Int32), j ≤ 12 → 12 - j < f → (∀ c, c < j → ln c = 0 ∧ fo c = 0) → wY_search_7 post (nI n) f_valid f (nI j) a_issuers a_subjects a_issuerKeys a_subjectKeys a_froms a_tos a_terms a_revoked a_held a_anchors ln a_steps fo co a_list a_nexts a_names a_policyLeft a_room := by
  intro f
  induction f with
  | zero => intro j _ _ _ _ hf; omega
  | succ f ih =>
    intro j ln fo co hj hf hz
    have ej : (nI j).toNatClampNeg = j := nI_clamp (by omega)
    simp only [wY_search_7, ej]
    by_cases e : j = 12
    · subst e
      refine br_t (by decide) (nm_e (nm_e (nm_e (nm_e ⟨1 + 1 + n * (1 + tp_B 5), ?_⟩))))
      refine tp_ySearch74 (gd := gd) hn hgn hV hR hL 5 [] rfl trivial List.nodup_nil n 0 (by omega) 1 (fun _ _ => False) ln a_steps fo co a_list _ _ _ _ 100 (tp_Acc_0 _ hz) (fun _ _ z => z.elim) (fun _ _ z => by simp at z) pk_us pk_us pk_us (Or.inr ⟨rfl, by decide, by decide⟩) pk_us ?_ _ (Nat.le_refl _)
      intro ln' st' fo' co' li' nx' na' pl' ro' A' _ _ m hm
      obtain ⟨m, rfl⟩ : ∃ m', m = m' + 1 := ⟨m - 1, by omega⟩
      simp only [wY_search_74]
      exact br_t (by decide) (h ln' st' fo' co' li' nx' na' pl' ro' (tp_Acc_eq A' (fun P' c' => ⟨fun z => z.elim False.elim (fun w => w.1), fun z => Or.inr (tp_Sub_all.mpr z)⟩)))
    · have ij : vp_in (nI j) 12 := vp_in_nI (by omega) (by omega)
      refine br_f (nI_ge (b := 12) (by omega) (by omega)) ⟨ij, nm_e ⟨ij, nm_e ⟨ij, nm_e (nm_r (nI_1 j) (ih (j + 1) _ _ _ (by omega) (by omega) ?_))⟩⟩⟩
      intro c hc
      by_cases z : c = j
      · subst z
        exact ⟨pk_us, pk_us⟩
      · rw [pk_un z, pk_un z]
        exact hz c (by omega)
theorem tp_ySearch {post : SY → Prop} {set : Int32} (hn : n ≤ 12) (hgn : ∀ x, gd x = true → x < n) (hV : ∀ c, c < n → (bt set c = true ↔ gd c = true)) (hR : tp_Rg n a_issuers a_issuerKeys a_subjects a_subjectKeys)
    (hL : ∀ c, c < n → ∃ lim, lim < 5 ∧ a_terms (5 * c + 1) = nI lim)
    (h : ∀ ln st fo co li nx na pl ro : Nat → Int32, tp_Acc (gd, a_issuers, a_issuerKeys, a_subjects, a_subjectKeys, a_terms, a_anchors) (tp_Ev (gd, a_issuers, a_issuerKeys, a_subjects, a_subjectKeys, a_terms, a_anchors)) ln st fo co → post (nI n, set, a_issuers, a_subjects, a_issuerKeys, a_subjectKeys, a_froms, a_tos, a_terms, a_revoked, a_held, a_anchors, ln, st, fo, co, li, nx, na, pl, ro)) :
    wpY_search post (nI n, f_valid, a_issuers, a_subjects, a_issuerKeys, a_subjectKeys, a_froms, a_tos, a_terms, a_revoked, a_held, a_anchors, a_lengths, a_steps, a_found, a_common, a_list, a_nexts, a_names, a_policyLeft, a_room) set := by
  simp only [wpY_search]
  exact ⟨13, tp_ySearch7 (gd := gd) (f_valid := set) hn hgn hV hR hL h 13 0 a_lengths a_found a_common (by omega) (by omega) lt_0⟩
theorem tp_yCount4 {post : Int32 → Prop} (hn : n ≤ 12) (p : Nat → Bool) (hp : ∀ c, c < n → (¬ a_lengths c ≤ 0 ↔ p c = true)) (h : post (nI (tp_cnt p n))) :
    ∀ (f k : Nat), k ≤ n → n - k < f → wY_countFound_4 post (nI n) f_valid a_issuers a_subjects a_issuerKeys a_subjectKeys a_froms a_tos a_terms a_revoked a_held a_anchors a_lengths a_steps a_found a_common a_list a_nexts a_names a_policyLeft a_room f (nI (tp_cnt p k)) (nI k) := by
  intro f
  induction f with
  | zero => intro k _ hf; omega
  | succ f ih =>
    intro k hk hf
    have ek : (nI k).toNatClampNeg = k := nI_clamp (by omega)
    simp only [wY_countFound_4, ek]
    by_cases e : k = n
    · subst e
      exact br_t (nI_le (Nat.le_refl _) (by omega)) h
    · have st := ih (k + 1) (by omega) (by omega)
      have es : tp_cnt p (k + 1) = tp_cnt p k + (if p k = true then 1 else 0) := rfl
      refine br_f (nI_ge (by omega) (by omega)) ⟨vp_in_nI (by omega) (by omega), br_c (fun y => nm_r (nI_1 k) ?_) (fun y => nm_r (nI_1 _) (nm_r (nI_1 k) ?_))⟩
      · have np : ¬ p k = true := fun z => (hp k (by omega)).mpr z y
        rw [es, if_neg np] at st
        exact st
      · rw [es, if_pos ((hp k (by omega)).mp y)] at st
        exact st
theorem tp_yCount {post : Int32 → Prop} (hn : n ≤ 12) (p : Nat → Bool) (hp : ∀ c, c < n → (¬ a_lengths c ≤ 0 ↔ p c = true)) (h : post (nI (tp_cnt p n))) : wpY_countFound post (nI n, f_valid, a_issuers, a_subjects, a_issuerKeys, a_subjectKeys, a_froms, a_tos, a_terms, a_revoked, a_held, a_anchors, a_lengths, a_steps, a_found, a_common, a_list, a_nexts, a_names, a_policyLeft, a_room) := by
  simp only [wpY_countFound]
  exact ⟨n + 1, tp_yCount4 hn p hp h (n + 1) 0 (Nat.zero_le _) (by omega)⟩
end
end
section
/-! the relation -/
def tp_Cn (n : Nat) (iN iK sN sK gf se rv : Nat → Int32) : Prop :=
  n ≤ 12 ∧ tp_Rg n iN iK sN sK ∧ (∀ c, c < n → (∃ lim, lim < 5 ∧ se (5 * c + 1) = nI lim) ∧ (∃ a, a < 16 ∧ se (5 * c + 4) = nI a) ∧ (rv c = 1000 ∨ rv c < 1000)) ∧ (∀ c, n ≤ c → gf c = 0 ∧ se (5 * c + 3) = 0)
def i_Rel (_ : Nat) (u : SX) (v : SY) : Prop :=
  match u with
  | (f_count, f_states, f_rounds, f_timeAt, f_without, f_pathLength, a_issuerName, a_issuerKey, a_subjectName, a_subjectKey, a_goodFrom, a_goodTo, a_settings, a_revokedFrom, a_isHeld, a_anchors, a_stateOf, a_openNames, a_mayCome, a_common, a_before, a_roundBegins, a_path) => match v with
    | (f_made, f_valid, a_issuers, a_subjects, a_issuerKeys, a_subjectKeys, a_froms, a_tos, a_terms, a_revoked, a_held, b_anchors, a_lengths, a_steps, a_found, b_common, a_list, a_nexts, a_names, a_policyLeft, a_room) =>
      a_issuerName = a_issuers ∧ a_issuerKey = a_issuerKeys ∧ a_subjectName = a_subjects ∧ a_subjectKey = a_subjectKeys ∧ a_goodFrom = a_froms ∧ a_goodTo = a_tos ∧ a_settings = a_terms ∧ a_revokedFrom = a_revoked ∧ a_isHeld = a_held ∧ a_anchors = b_anchors ∧
      ∃ n, f_count = nI n ∧ f_made = nI n ∧ tp_Cn n a_issuerName a_issuerKey a_subjectName a_subjectKey a_goodFrom a_settings a_revokedFrom
theorem i_up {k : Nat} {u : SX} {v : SY} (h : i_Rel k u v) : i_Rel (k + 4) u v := h
theorem tp_in {f_states f_rounds f_timeAt f_without f_pathLength : Int32} {a_issuerName a_issuerKey a_subjectName a_subjectKey a_goodFrom a_goodTo a_settings a_revokedFrom a_isHeld a_anchors a_stateOf a_openNames a_mayCome a_common a_before a_roundBegins a_path : Nat → Int32} {f_valid : Int32} {a_lengths a_steps a_found b_common a_list a_nexts a_names a_policyLeft a_room : Nat → Int32} {k n : Nat} (hC : tp_Cn n a_issuerName a_issuerKey a_subjectName a_subjectKey a_goodFrom a_settings a_revokedFrom) : i_Rel k (nI n, f_states, f_rounds, f_timeAt, f_without, f_pathLength, a_issuerName, a_issuerKey, a_subjectName, a_subjectKey, a_goodFrom, a_goodTo, a_settings, a_revokedFrom, a_isHeld, a_anchors, a_stateOf, a_openNames, a_mayCome, a_common, a_before, a_roundBegins, a_path) (nI n, f_valid, a_issuerName, a_subjectName, a_issuerKey, a_subjectKey, a_goodFrom, a_goodTo, a_settings, a_revokedFrom, a_isHeld, a_anchors, a_lengths, a_steps, a_found, b_common, a_list, a_nexts, a_names, a_policyLeft, a_room) :=
  ⟨rfl, rfl, rfl, rfl, rfl, rfl, rfl, rfl, rfl, rfl, n, rfl, rfl, hC⟩
theorem tp_el {M : SX → SY → Prop} (h : ∀ (f_states f_rounds f_timeAt f_without f_pathLength : Int32) (a_issuerName a_issuerKey a_subjectName a_subjectKey a_goodFrom a_goodTo a_settings a_revokedFrom a_isHeld a_anchors a_stateOf a_openNames a_mayCome a_common a_before a_roundBegins a_path : Nat → Int32) (f_valid : Int32) (a_lengths a_steps a_found b_common a_list a_nexts a_names a_policyLeft a_room : Nat → Int32) (n : Nat), tp_Cn n a_issuerName a_issuerKey a_subjectName a_subjectKey a_goodFrom a_settings a_revokedFrom → M (nI n, f_states, f_rounds, f_timeAt, f_without, f_pathLength, a_issuerName, a_issuerKey, a_subjectName, a_subjectKey, a_goodFrom, a_goodTo, a_settings, a_revokedFrom, a_isHeld, a_anchors, a_stateOf, a_openNames, a_mayCome, a_common, a_before, a_roundBegins, a_path) (nI n, f_valid, a_issuerName, a_subjectName, a_issuerKey, a_subjectKey, a_goodFrom, a_goodTo, a_settings, a_revokedFrom, a_isHeld, a_anchors, a_lengths, a_steps, a_found, b_common, a_list, a_nexts, a_names, a_policyLeft, a_room)) {k : Nat} {u : SX} {v : SY} (I : i_Rel k u v) : M u v := by
  obtain ⟨f_count, f_states, f_rounds, f_timeAt, f_without, f_pathLength, a_issuerName, a_issuerKey, a_subjectName, a_subjectKey, a_goodFrom, a_goodTo, a_settings, a_revokedFrom, a_isHeld, a_anchors, a_stateOf, a_openNames, a_mayCome, a_common, a_before, a_roundBegins, a_path⟩ := u
  obtain ⟨f_made, f_valid, a_issuers, a_subjects, a_issuerKeys, a_subjectKeys, a_froms, a_tos, a_terms, a_revoked, a_held, b_anchors, a_lengths, a_steps, a_found, b_common, a_list, a_nexts, a_names, a_policyLeft, a_room⟩ := v
  obtain ⟨rfl, rfl, rfl, rfl, rfl, rfl, rfl, rfl, rfl, rfl, n, rfl, rfl, hC⟩ := I
  exact h _ _ _ _ _ _ _ _ _ _ _ _ _ _ _ _ _ _ _ _ _ _ _ _ _ _ _ _ _ _ _ _ n hC
theorem i_vc0 : wpX_init (fun u => wpY_init (fun v => i_Rel 0 u v)) := by
  refine ⟨4, ?_⟩
  refine br_f (by decide) ⟨vp_in_iff.mpr (by decide), nm_e (nm_r (e' := 1) (by decide) ?_)⟩
  refine br_f (by decide) ⟨vp_in_iff.mpr (by decide), nm_e (nm_r (e' := 2) (by decide) ?_)⟩
  refine br_f (by decide) ⟨vp_in_iff.mpr (by decide), nm_e (nm_r (e' := 3) (by decide) ?_)⟩
  refine br_t (by decide) ?_
  refine ⟨4, ?_⟩
  refine br_f (by decide) ⟨vp_in_iff.mpr (by decide), nm_e (nm_r (e' := 1) (by decide) ?_)⟩
  refine br_f (by decide) ⟨vp_in_iff.mpr (by decide), nm_e (nm_r (e' := 2) (by decide) ?_)⟩
  refine br_f (by decide) ⟨vp_in_iff.mpr (by decide), nm_e (nm_r (e' := 3) (by decide) ?_)⟩
  refine br_t (by decide) ?_
  refine tp_in (n := 0) ⟨by omega, fun c hc => absurd hc (Nat.not_lt_zero _), fun c hc => absurd hc (Nat.not_lt_zero _), fun c _ => ⟨rfl, rfl⟩⟩
/-! which questions are asked -/
def tp_tm (x : Int32) : Prop := ¬ x < 0 ∧ ¬ 100 < x
def tp_ce (n : Nat) (x : Int32) : Prop := ∃ c, c < n ∧ x = nI c
theorem tp_ce_iff {n : Nat} (hn : n ≤ 12) (x : Int32) : tp_ce n x ↔ ¬ x < 0 ∧ ¬ nI n ≤ x := by
  constructor
  · rintro ⟨c, hc, rfl⟩
    exact ⟨nI_pos (by omega), nI_ge hc (by omega)⟩
  · rintro ⟨h1, h2⟩
    rcases pk_ix x (n := n) (by omega) with z | z | z
    · exact absurd z h1
    · exact absurd z h2
    · exact z
section
variable {f_count f_states f_rounds f_timeAt f_without f_pathLength : Int32} {a_issuerName a_issuerKey a_subjectName a_subjectKey a_goodFrom a_goodTo a_settings a_revokedFrom a_isHeld a_anchors a_stateOf a_openNames a_mayCome a_common a_before a_roundBegins a_path : Nat → Int32}
theorem tp_xTime {post : Int32 → Prop} {x : Int32} (h1 : tp_tm x → post 1) (h0 : ¬ tp_tm x → post 0) : wpX_isTime post x :=
  br_c (fun a => h0 (fun z => z.1 a)) (fun a => br_c (fun b => h0 (fun z => z.2 b)) (fun b => h1 ⟨a, b⟩))
theorem tp_xCert {post : Int32 → Prop} {n : Nat} {x : Int32} (hn : n ≤ 12) (h1 : tp_ce n x → post 1) (h0 : ¬ tp_ce n x → post 0) : wpX_isCertificate post (nI n, f_states, f_rounds, f_timeAt, f_without, f_pathLength, a_issuerName, a_issuerKey, a_subjectName, a_subjectKey, a_goodFrom, a_goodTo, a_settings, a_revokedFrom, a_isHeld, a_anchors, a_stateOf, a_openNames, a_mayCome, a_common, a_before, a_roundBegins, a_path) x := by
  rw [tp_ce_iff hn] at h1 h0
  exact br_c (fun a => h0 (fun z => z.1 a)) (fun a => br_c (fun b => h0 (fun z => z.2 b)) (fun b => h1 ⟨a, b⟩))
theorem tp_xAsk {post : Int32 → Prop} {n : Nat} {x t : Int32} (hn : n ≤ 12) (h1 : tp_ce n x → tp_tm t → post 1) (h0 : ¬ (tp_ce n x ∧ tp_tm t) → post 0) : wpX_isAsked post (nI n, f_states, f_rounds, f_timeAt, f_without, f_pathLength, a_issuerName, a_issuerKey, a_subjectName, a_subjectKey, a_goodFrom, a_goodTo, a_settings, a_revokedFrom, a_isHeld, a_anchors, a_stateOf, a_openNames, a_mayCome, a_common, a_before, a_roundBegins, a_path) x t := by
  simp only [wpX_isAsked]
  exact tp_xCert hn (fun a => br_f (by decide) (tp_xTime (fun b => br_f (by decide) (h1 a b)) (fun b => br_t rfl (h0 (fun z => b z.2))))) (fun a => br_t rfl (h0 (fun z => a z.1)))
end
section
variable {f_made f_valid : Int32} {a_issuers a_subjects a_issuerKeys a_subjectKeys a_froms a_tos a_terms a_revoked a_held a_anchors a_lengths a_steps a_found a_common a_list a_nexts a_names a_policyLeft a_room : Nat → Int32}
theorem tp_yTime {post : Int32 → Prop} {x : Int32} (h0 : tp_tm x → post 0) (h1 : ¬ tp_tm x → post 1) : wpY_badTime post (f_made, f_valid, a_issuers, a_subjects, a_issuerKeys, a_subjectKeys, a_froms, a_tos, a_terms, a_revoked, a_held, a_anchors, a_lengths, a_steps, a_found, a_common, a_list, a_nexts, a_names, a_policyLeft, a_room) x :=
  br_c (fun a => h1 (fun z => z.1 a)) (fun a => br_c (fun b => h0 ⟨a, Int32.not_lt.mpr b⟩) (fun b => h1 (fun z => b (Int32.not_lt.mp z.2))))
theorem tp_yCert {post : Int32 → Prop} {n : Nat} {x : Int32} (hn : n ≤ 12) (h0 : tp_ce n x → post 0) (h1 : ¬ tp_ce n x → post 1) : wpY_badCertificate post (nI n, f_valid, a_issuers, a_subjects, a_issuerKeys, a_subjectKeys, a_froms, a_tos, a_terms, a_revoked, a_held, a_anchors, a_lengths, a_steps, a_found, a_common, a_list, a_nexts, a_names, a_policyLeft, a_room) x := by
  rw [tp_ce_iff hn] at h1 h0
  exact br_c (fun a => h1 (fun z => z.1 a)) (fun a => br_c (fun b => h0 ⟨a, Int32.not_le.mpr b⟩) (fun b => h1 (fun z => b (Int32.not_le.mp z.2))))
theorem tp_yAsk {post : Int32 → Prop} {n : Nat} {x t : Int32} (hn : n ≤ 12) (h0 : tp_ce n x → tp_tm t → post 0) (h1 : ¬ (tp_ce n x ∧ tp_tm t) → post 1) : wpY_badQuestion post (nI n, f_valid, a_issuers, a_subjects, a_issuerKeys, a_subjectKeys, a_froms, a_tos, a_terms, a_revoked, a_held, a_anchors, a_lengths, a_steps, a_found, a_common, a_list, a_nexts, a_names, a_policyLeft, a_room) x t := by
  simp only [wpY_badQuestion]
  exact tp_yCert hn (fun a => br_t rfl (tp_yTime (fun b => br_t rfl (h0 a b)) (fun b => br_f (by decide) (h1 (fun z => b z.2))))) (fun a => br_f (by decide) (h1 (fun z => a z.1)))
end
end
section
/-! the calls that set something -/
theorem tp_le_lt {a b : Int32} (h : b.toInt = a.toInt + 1) (x : Int32) : b ≤ x ↔ a < x := by
  rw [Int32.le_iff_toInt_le, Int32.lt_iff_toInt_lt]
  omega
theorem tp_le_lt' {a b : Int32} (h : b.toInt = a.toInt + 1) (x : Int32) : x ≤ a ↔ x < b := by
  rw [Int32.le_iff_toInt_le, Int32.lt_iff_toInt_lt]
  omega
theorem i_vc_times {k : Nat} {u : SX} {v : SY} (I : i_Rel k u v) (hk : k + 4 ≤ 2048) (v1 : Int32) (v2 : Int32) (v3 : Int32) : wpX_times (fun r u' => wpY_times (fun r' v' => r' = r ∧ i_Rel (k + 4) u' v') v v1 v2 v3) u v1 v2 v3 := by
  refine tp_el (M := fun u v => wpX_times (fun r u' => wpY_times (fun r' v' => r' = r ∧ i_Rel (k + 4) u' v') v v1 v2 v3) u v1 v2 v3) ?_ I
  intro f_states f_rounds f_timeAt f_without f_pathLength a_issuerName a_issuerKey a_subjectName a_subjectKey a_goodFrom a_goodTo a_settings a_revokedFrom a_isHeld a_anchors a_stateOf a_openNames a_mayCome a_common a_before a_roundBegins a_path f_valid a_lengths a_steps a_found b_common a_list a_nexts a_names a_policyLeft a_room n hC
  have hn := hC.1
  by_cases hA : tp_ce n v1 ∧ tp_tm v2 ∧ tp_tm v3 ∧ v2 ≤ v3
  · obtain ⟨⟨c, hc, rfl⟩, h2, h3, h4⟩ := hA
    have e : (nI c).toNatClampNeg = c := nI_clamp (by omega)
    have hi : vp_in (nI c) 12 := vp_in_nI (by omega) (by omega)
    simp only [wpX_times, e]
    refine tp_xCert hn (fun _ => br_f (by decide) (tp_xTime (fun _ => br_f (by decide) (tp_xTime (fun _ => br_f (by decide) (br_t h4 ⟨hi, nm_e ⟨hi, nm_e ?_⟩⟩)) (fun z => absurd h3 z))) (fun z => absurd h2 z))) (fun z => absurd ⟨c, hc, rfl⟩ z)
    simp only [wpY_times, e]
    refine tp_yCert hn (fun _ => br_t rfl (tp_yTime (fun _ => br_t rfl (tp_yTime (fun _ => br_t rfl (br_t h4 ⟨hi, nm_e ⟨hi, nm_e ⟨by trivial, tp_in ?_⟩⟩⟩)) (fun z => absurd h3 z))) (fun z => absurd h2 z))) (fun z => absurd ⟨c, hc, rfl⟩ z)
    refine ⟨hC.1, hC.2.1, hC.2.2.1, fun d hd => ?_⟩
    rw [pk_un (by omega)]
    exact hC.2.2.2 d hd
  · have YB : wpY_times (fun r' v' => r' = -1 ∧ i_Rel (k + 4) (nI n, f_states, f_rounds, f_timeAt, f_without, f_pathLength, a_issuerName, a_issuerKey, a_subjectName, a_subjectKey, a_goodFrom, a_goodTo, a_settings, a_revokedFrom, a_isHeld, a_anchors, a_stateOf, a_openNames, a_mayCome, a_common, a_before, a_roundBegins, a_path) v') (nI n, f_valid, a_issuerName, a_subjectName, a_issuerKey, a_subjectKey, a_goodFrom, a_goodTo, a_settings, a_revokedFrom, a_isHeld, a_anchors, a_lengths, a_steps, a_found, b_common, a_list, a_nexts, a_names, a_policyLeft, a_room) v1 v2 v3 := by
      simp only [wpY_times]
      exact tp_yCert hn (fun a => br_t rfl (tp_yTime (fun b => br_t rfl (tp_yTime (fun d => br_t rfl (br_f (fun e => hA ⟨a, b, d, e⟩) ⟨by trivial, tp_in hC⟩)) (fun _ => br_f (by decide) ⟨by trivial, tp_in hC⟩))) (fun _ => br_f (by decide) ⟨by trivial, tp_in hC⟩))) (fun _ => br_f (by decide) ⟨by trivial, tp_in hC⟩)
    simp only [wpX_times]
    exact tp_xCert hn (fun a => br_f (by decide) (tp_xTime (fun b => br_f (by decide) (tp_xTime (fun d => br_f (by decide) (br_f (fun e => hA ⟨a, b, d, e⟩) YB)) (fun _ => br_t rfl YB))) (fun _ => br_t rfl YB))) (fun _ => br_t rfl YB)
def tp_gr (w : Nat) : Nat := if w = 0 then 1 else if w = 1 then 4 else if w = 4 then 15 else 255
theorem tp_xGr {post : Int32 → Prop} {w : Nat} (hw : w < 5) (h : post (nI (tp_gr w))) : wpX_greatest post (nI w) := by
  unfold tp_gr at h
  refine pk_eq w 0 (fun a => ?_) (fun a => pk_eq w 1 (fun b => ?_) (fun b => pk_eq w 4 (fun d => ?_) (fun d => ?_)))
  · rw [if_pos a] at h; exact h
  · rw [if_neg a, if_pos b] at h; exact h
  · rw [if_neg a, if_neg b, if_pos d] at h; exact h
  · rw [if_neg a, if_neg b, if_neg d] at h; exact h
theorem tp_yMost {f_made f_valid : Int32} {a_issuers a_subjects a_issuerKeys a_subjectKeys a_froms a_tos a_terms a_revoked a_held a_anchors a_lengths a_steps a_found a_common a_list a_nexts a_names a_policyLeft a_room : Nat → Int32} {post : Int32 → Prop} {w : Nat} (hw : w < 5) (h : post (nI (tp_gr w))) : wpY_most post (f_made, f_valid, a_issuers, a_subjects, a_issuerKeys, a_subjectKeys, a_froms, a_tos, a_terms, a_revoked, a_held, a_anchors, a_lengths, a_steps, a_found, a_common, a_list, a_nexts, a_names, a_policyLeft, a_room) (nI w) := by
  unfold tp_gr at h
  refine pk_eq w 0 (fun a => ?_) (fun a => pk_eq w 1 (fun b => ?_) (fun b => pk_eq w 4 (fun d => ?_) (fun d => ?_)))
  · rw [if_pos a] at h; exact h
  · rw [if_neg a, if_pos b] at h; exact h
  · rw [if_neg a, if_neg b, if_pos d] at h; exact h
  · rw [if_neg a, if_neg b, if_neg d] at h; exact h
theorem tp_gr_lt (w : Nat) : tp_gr w < 256 := by
  unfold tp_gr
  split
  · omega
  · split
    · omega
    · split <;> omega
theorem i_vc_set {k : Nat} {u : SX} {v : SY} (I : i_Rel k u v) (hk : k + 4 ≤ 2048) (v1 : Int32) (v2 : Int32) (v3 : Int32) : wpX_set (fun r u' => wpY_set (fun r' v' => r' = r ∧ i_Rel (k + 4) u' v') v v1 v2 v3) u v1 v2 v3 := by
  refine tp_el (M := fun u v => wpX_set (fun r u' => wpY_set (fun r' v' => r' = r ∧ i_Rel (k + 4) u' v') v v1 v2 v3) u v1 v2 v3) ?_ I
  intro f_states f_rounds f_timeAt f_without f_pathLength a_issuerName a_issuerKey a_subjectName a_subjectKey a_goodFrom a_goodTo a_settings a_revokedFrom a_isHeld a_anchors a_stateOf a_openNames a_mayCome a_common a_before a_roundBegins a_path f_valid a_lengths a_steps a_found b_common a_list a_nexts a_names a_policyLeft a_room n hC
  have hn := hC.1
  by_cases hA : tp_ce n v1 ∧ ¬ v2 < 0 ∧ ¬ 4 < v2
  · obtain ⟨⟨c, hc, rfl⟩, h2, h3⟩ := hA
    obtain ⟨w, hw, rfl⟩ := nI_of2 (x := v2) (M := 4) (n := 4) (by decide) h2 (Int32.not_lt.mp h3)
    have e : ((5 : Int32) * nI c + nI w).toNatClampNeg = 5 * c + w := by rw [tp_mul5a]; exact nI_clamp (by omega)
    have hi : vp_in ((5 : Int32) * nI c + nI w) 60 := by rw [tp_mul5a]; exact vp_in_nI (by omega) (by omega)
    have hgl := tp_gr_lt w
    by_cases hB : ¬ v3 < 0 ∧ v3 ≤ nI (tp_gr w)
    · simp only [wpX_set, e]
      refine tp_xCert hn (fun _ => br_f (by decide) (br_f h2 (br_f h3 (br_f hB.1 (tp_xGr (by omega) (br_t hB.2 ⟨hi, nm_e ⟨hi, nm_e ?_⟩⟩)))))) (fun z => absurd ⟨c, hc, rfl⟩ z)
      simp only [wpY_set, e]
      refine tp_yCert hn (fun _ => br_t rfl (br_f h2 (br_f h3 (br_f hB.1 (tp_yMost (by omega) (br_t hB.2 ⟨hi, nm_e ⟨hi, nm_e ⟨by trivial, tp_in ?_⟩⟩⟩)))))) (fun z => absurd ⟨c, hc, rfl⟩ z)
      obtain ⟨a, ha, rfl⟩ := nI_of2 (n := tp_gr w) (nI_toInt (by omega)) hB.1 hB.2
      refine ⟨hC.1, hC.2.1, fun d hd => ?_, fun d hd => ?_⟩
      · obtain ⟨q1, q2, q3⟩ := hC.2.2.1 d hd
        refine ⟨?_, ?_, q3⟩
        · by_cases z : 5 * d + 1 = 5 * c + w
          · rw [z, pk_us]
            have hw1 : w = 1 := by omega
            subst hw1
            have : tp_gr 1 = 4 := rfl
            exact ⟨a, by omega, rfl⟩
          · rw [pk_un z]
            exact q1
        · by_cases z : 5 * d + 4 = 5 * c + w
          · rw [z, pk_us]
            have hw1 : w = 4 := by omega
            subst hw1
            have : tp_gr 4 = 15 := rfl
            exact ⟨a, by omega, rfl⟩
          · rw [pk_un z]
            exact q2
      · rw [pk_un (by omega)]
        exact hC.2.2.2 d hd
    · have YB : wpY_set (fun r' v' => r' = -1 ∧ i_Rel (k + 4) (nI n, f_states, f_rounds, f_timeAt, f_without, f_pathLength, a_issuerName, a_issuerKey, a_subjectName, a_subjectKey, a_goodFrom, a_goodTo, a_settings, a_revokedFrom, a_isHeld, a_anchors, a_stateOf, a_openNames, a_mayCome, a_common, a_before, a_roundBegins, a_path) v') (nI n, f_valid, a_issuerName, a_subjectName, a_issuerKey, a_subjectKey, a_goodFrom, a_goodTo, a_settings, a_revokedFrom, a_isHeld, a_anchors, a_lengths, a_steps, a_found, b_common, a_list, a_nexts, a_names, a_policyLeft, a_room) (nI c) (nI w) v3 := by
        simp only [wpY_set]
        exact tp_yCert hn (fun _ => br_t rfl (br_f h2 (br_f h3 (br_c (fun _ => ⟨by trivial, tp_in hC⟩) (fun z => tp_yMost (by omega) (br_f (fun y => hB ⟨z, y⟩) ⟨by trivial, tp_in hC⟩)))))) (fun z => absurd ⟨c, hc, rfl⟩ z)
      simp only [wpX_set]
      exact tp_xCert hn (fun _ => br_f (by decide) (br_f h2 (br_f h3 (br_c (fun _ => YB) (fun z => tp_xGr (by omega) (br_f (fun y => hB ⟨z, y⟩) YB)))))) (fun z => absurd ⟨c, hc, rfl⟩ z)
  · have YB : wpY_set (fun r' v' => r' = -1 ∧ i_Rel (k + 4) (nI n, f_states, f_rounds, f_timeAt, f_without, f_pathLength, a_issuerName, a_issuerKey, a_subjectName, a_subjectKey, a_goodFrom, a_goodTo, a_settings, a_revokedFrom, a_isHeld, a_anchors, a_stateOf, a_openNames, a_mayCome, a_common, a_before, a_roundBegins, a_path) v') (nI n, f_valid, a_issuerName, a_subjectName, a_issuerKey, a_subjectKey, a_goodFrom, a_goodTo, a_settings, a_revokedFrom, a_isHeld, a_anchors, a_lengths, a_steps, a_found, b_common, a_list, a_nexts, a_names, a_policyLeft, a_room) v1 v2 v3 := by
      simp only [wpY_set]
      exact tp_yCert hn (fun a => br_t rfl (br_c (fun _ => ⟨by trivial, tp_in hC⟩) (fun b => br_t (Classical.byContradiction (fun d => hA ⟨a, b, d⟩)) ⟨by trivial, tp_in hC⟩))) (fun _ => br_f (by decide) ⟨by trivial, tp_in hC⟩)
    simp only [wpX_set]
    exact tp_xCert hn (fun a => br_f (by decide) (br_c (fun _ => YB) (fun b => br_t (Classical.byContradiction (fun d => hA ⟨a, b, d⟩)) YB))) (fun _ => br_t rfl YB)
theorem i_vc_revoke {k : Nat} {u : SX} {v : SY} (I : i_Rel k u v) (hk : k + 4 ≤ 2048) (v1 : Int32) (v2 : Int32) : wpX_revoke (fun r u' => wpY_revoke (fun r' v' => r' = r ∧ i_Rel (k + 4) u' v') v v1 v2) u v1 v2 := by
  refine tp_el (M := fun u v => wpX_revoke (fun r u' => wpY_revoke (fun r' v' => r' = r ∧ i_Rel (k + 4) u' v') v v1 v2) u v1 v2) ?_ I
  intro f_states f_rounds f_timeAt f_without f_pathLength a_issuerName a_issuerKey a_subjectName a_subjectKey a_goodFrom a_goodTo a_settings a_revokedFrom a_isHeld a_anchors a_stateOf a_openNames a_mayCome a_common a_before a_roundBegins a_path f_valid a_lengths a_steps a_found b_common a_list a_nexts a_names a_policyLeft a_room n hC
  have hn := hC.1
  by_cases hA : tp_ce n v1 ∧ tp_tm v2
  · obtain ⟨⟨c, hc, rfl⟩, h2⟩ := hA
    have e : (nI c).toNatClampNeg = c := nI_clamp (by omega)
    have hi : vp_in (nI c) 12 := vp_in_nI (by omega) (by omega)
    have hC' : tp_Cn n a_issuerName a_issuerKey a_subjectName a_subjectKey a_goodFrom a_settings (upd a_revokedFrom c v2) := by
      refine ⟨hC.1, hC.2.1, fun d hd => ?_, hC.2.2.2⟩
      obtain ⟨q1, q2, q3⟩ := hC.2.2.1 d hd
      refine ⟨q1, q2, ?_⟩
      by_cases z : d = c
      · rw [z, pk_us]
        right
        have := Int32.not_lt.mp h2.2
        exact Int32.lt_of_le_of_lt this (by decide)
      · rw [pk_un z]
        exact q3
    have key : a_revokedFrom c = 1000 ↔ 1000 ≤ a_revokedFrom c := by
      constructor
      · intro z
        rw [z]
        exact Int32.le_refl _
      · intro z
        rcases (hC.2.2.1 c hc).2.2 with y | y
        · exact y
        · exact absurd y (Int32.not_lt.mpr z)
    simp only [wpX_revoke, e]
    refine tp_xCert hn (fun _ => br_f (by decide) (tp_xTime (fun _ => br_f (by decide) ⟨hi, br_c (fun a => ?_) (fun a => ?_)⟩) (fun z => absurd h2 z))) (fun z => absurd ⟨c, hc, rfl⟩ z)
    · simp only [wX_revoke_34, e]
      refine ⟨hi, nm_e ?_⟩
      simp only [wpY_revoke, wY_revoke_35, e]
      exact tp_yCert hn (fun _ => br_t rfl (tp_yTime (fun _ => br_t rfl ⟨hi, br_t (key.mp a) ⟨hi, nm_e ⟨by trivial, tp_in hC'⟩⟩⟩) (fun z => absurd h2 z))) (fun z => absurd ⟨c, hc, rfl⟩ z)
    · simp only [wX_revoke_34, e]
      refine ⟨hi, nm_e ?_⟩
      simp only [wpY_revoke, wY_revoke_35, e]
      exact tp_yCert hn (fun _ => br_t rfl (tp_yTime (fun _ => br_t rfl ⟨hi, br_f (fun z => a (key.mpr z)) ⟨hi, nm_e ⟨by trivial, tp_in hC'⟩⟩⟩) (fun z => absurd h2 z))) (fun z => absurd ⟨c, hc, rfl⟩ z)
  · have YB : wpY_revoke (fun r' v' => r' = -1 ∧ i_Rel (k + 4) (nI n, f_states, f_rounds, f_timeAt, f_without, f_pathLength, a_issuerName, a_issuerKey, a_subjectName, a_subjectKey, a_goodFrom, a_goodTo, a_settings, a_revokedFrom, a_isHeld, a_anchors, a_stateOf, a_openNames, a_mayCome, a_common, a_before, a_roundBegins, a_path) v') (nI n, f_valid, a_issuerName, a_subjectName, a_issuerKey, a_subjectKey, a_goodFrom, a_goodTo, a_settings, a_revokedFrom, a_isHeld, a_anchors, a_lengths, a_steps, a_found, b_common, a_list, a_nexts, a_names, a_policyLeft, a_room) v1 v2 := by
      simp only [wpY_revoke]
      exact tp_yCert hn (fun a => br_t rfl (tp_yTime (fun b => absurd ⟨a, b⟩ hA) (fun _ => br_f (by decide) ⟨by trivial, tp_in hC⟩))) (fun _ => br_f (by decide) ⟨by trivial, tp_in hC⟩)
    simp only [wpX_revoke]
    exact tp_xCert hn (fun a => br_f (by decide) (tp_xTime (fun b => absurd ⟨a, b⟩ hA) (fun _ => br_t rfl YB))) (fun _ => br_t rfl YB)
theorem i_vc_hold {k : Nat} {u : SX} {v : SY} (I : i_Rel k u v) (hk : k + 4 ≤ 2048) (v1 : Int32) (v2 : Int32) : wpX_hold (fun r u' => wpY_hold (fun r' v' => r' = r ∧ i_Rel (k + 4) u' v') v v1 (lw_bz v2)) u v1 (lw_bz v2) := by
  refine tp_el (M := fun u v => wpX_hold (fun r u' => wpY_hold (fun r' v' => r' = r ∧ i_Rel (k + 4) u' v') v v1 (lw_bz v2)) u v1 (lw_bz v2)) ?_ I
  intro f_states f_rounds f_timeAt f_without f_pathLength a_issuerName a_issuerKey a_subjectName a_subjectKey a_goodFrom a_goodTo a_settings a_revokedFrom a_isHeld a_anchors a_stateOf a_openNames a_mayCome a_common a_before a_roundBegins a_path f_valid a_lengths a_steps a_found b_common a_list a_nexts a_names a_policyLeft a_room n hC
  have hn := hC.1
  by_cases hA : tp_ce n v1
  · obtain ⟨c, hc, rfl⟩ := hA
    have e : (nI c).toNatClampNeg = c := nI_clamp (by omega)
    have hi : vp_in (nI c) 12 := vp_in_nI (by omega) (by omega)
    simp only [wpX_hold, e]
    refine tp_xCert hn (fun _ => br_f (by decide) ⟨hi, br_c (fun a => ?_) (fun a => ?_)⟩) (fun z => absurd ⟨c, hc, rfl⟩ z)
    · simp only [wX_hold_24, e]
      refine ⟨hi, nm_e ?_⟩
      simp only [wpY_hold, wY_hold_24, e]
      exact tp_yCert hn (fun _ => br_t rfl ⟨hi, br_t a ⟨hi, nm_e ⟨by trivial, tp_in hC⟩⟩⟩) (fun z => absurd ⟨c, hc, rfl⟩ z)
    · simp only [wX_hold_24, e]
      refine ⟨hi, nm_e ?_⟩
      simp only [wpY_hold, wY_hold_24, e]
      exact tp_yCert hn (fun _ => br_t rfl ⟨hi, br_f a ⟨hi, nm_e ⟨by trivial, tp_in hC⟩⟩⟩) (fun z => absurd ⟨c, hc, rfl⟩ z)
  · have YB : wpY_hold (fun r' v' => r' = -1 ∧ i_Rel (k + 4) (nI n, f_states, f_rounds, f_timeAt, f_without, f_pathLength, a_issuerName, a_issuerKey, a_subjectName, a_subjectKey, a_goodFrom, a_goodTo, a_settings, a_revokedFrom, a_isHeld, a_anchors, a_stateOf, a_openNames, a_mayCome, a_common, a_before, a_roundBegins, a_path) v') (nI n, f_valid, a_issuerName, a_subjectName, a_issuerKey, a_subjectKey, a_goodFrom, a_goodTo, a_settings, a_revokedFrom, a_isHeld, a_anchors, a_lengths, a_steps, a_found, b_common, a_list, a_nexts, a_names, a_policyLeft, a_room) v1 (lw_bz v2) := by
      simp only [wpY_hold]
      exact tp_yCert hn (fun a => absurd a hA) (fun _ => br_f (by decide) ⟨by trivial, tp_in hC⟩)
    simp only [wpX_hold]
    exact tp_xCert hn (fun a => absurd a hA) (fun _ => br_t rfl YB)
theorem tp_xIsAnchor {post : Int32 → Prop} {x : Int32} (h1 : ¬ x < 0 ∧ ¬ 3 ≤ x → post 1) (h0 : ¬ (¬ x < 0 ∧ ¬ 3 ≤ x) → post 0) : wpX_isAnchor post x :=
  br_c (fun a => h0 (fun z => z.1 a)) (fun a => br_c (fun b => h0 (fun z => z.2 b)) (fun b => h1 ⟨a, b⟩))
theorem i_vc_anchor {k : Nat} {u : SX} {v : SY} (I : i_Rel k u v) (hk : k + 4 ≤ 2048) (v1 : Int32) (v2 : Int32) : wpX_anchor (fun r u' => wpY_anchor (fun r' v' => r' = r ∧ i_Rel (k + 4) u' v') v v1 v2) u v1 v2 := by
  refine tp_el (M := fun u v => wpX_anchor (fun r u' => wpY_anchor (fun r' v' => r' = r ∧ i_Rel (k + 4) u' v') v v1 v2) u v1 v2) ?_ I
  intro f_states f_rounds f_timeAt f_without f_pathLength a_issuerName a_issuerKey a_subjectName a_subjectKey a_goodFrom a_goodTo a_settings a_revokedFrom a_isHeld a_anchors a_stateOf a_openNames a_mayCome a_common a_before a_roundBegins a_path f_valid a_lengths a_steps a_found b_common a_list a_nexts a_names a_policyLeft a_room n hC
  have t2 : (3 : Int32) ≤ v1 ↔ 2 < v1 := tp_le_lt (by decide) v1
  have t3 : v2 ≤ 79 ↔ v2 < 80 := tp_le_lt' (by decide) v2
  simp only [wpX_anchor, wX_anchor_33]
  have Y0 : ¬ (¬ v1 < 0 ∧ ¬ 3 ≤ v1 ∧ ¬ v2 < 0 ∧ v2 < 80) → wpY_anchor (fun r' v' => r' = -1 ∧ i_Rel (k + 4) (nI n, f_states, f_rounds, f_timeAt, f_without, f_pathLength, a_issuerName, a_issuerKey, a_subjectName, a_subjectKey, a_goodFrom, a_goodTo, a_settings, a_revokedFrom, a_isHeld, a_anchors, a_stateOf, a_openNames, a_mayCome, a_common, a_before, a_roundBegins, a_path) v') (nI n, f_valid, a_issuerName, a_subjectName, a_issuerKey, a_subjectKey, a_goodFrom, a_goodTo, a_settings, a_revokedFrom, a_isHeld, a_anchors, a_lengths, a_steps, a_found, b_common, a_list, a_nexts, a_names, a_policyLeft, a_room) v1 v2 := by
    intro hA
    simp only [wpY_anchor]
    exact br_c (fun _ => ⟨by trivial, tp_in hC⟩) (fun a => br_c (fun _ => ⟨by trivial, tp_in hC⟩) (fun b => br_c (fun _ => ⟨by trivial, tp_in hC⟩) (fun d => br_f (fun e => hA ⟨a, fun z => b (t2.mp z), d, t3.mp e⟩) ⟨by trivial, tp_in hC⟩)))
  refine tp_xIsAnchor (fun a => br_f (by decide) (br_c (fun b => Y0 (fun z => z.2.2.1 b)) (fun b => br_c (fun d => ?_) (fun d => Y0 (fun z => d z.2.2.2))))) (fun a => br_t rfl (Y0 (fun z => a ⟨z.1, z.2.1⟩)))
  obtain ⟨c, hc, rfl⟩ : ∃ c, c < 3 ∧ v1 = nI c := by
    rcases pk_ix v1 (n := 3) (by omega) with z | z | z
    · exact absurd z a.1
    · exact absurd z a.2
    · exact z
  have e : (nI c).toNatClampNeg = c := nI_clamp (by omega)
  have hi : vp_in (nI c) 3 := vp_in_nI (by omega) (by omega)
  simp only [e]
  refine ⟨hi, br_c (fun w => ⟨hi, nm_e ?_⟩) (fun w => ⟨hi, nm_e ?_⟩)⟩
  · simp only [wpY_anchor, wY_anchor_35, e]
    exact br_f a.1 (br_f (fun z => a.2 (t2.mpr z)) (br_f b (br_t (t3.mpr d) ⟨hi, br_f (Int32.not_lt.mpr w) ⟨hi, nm_e ⟨by trivial, tp_in hC⟩⟩⟩)))
  · simp only [wpY_anchor, wY_anchor_35, e]
    exact br_f a.1 (br_f (fun z => a.2 (t2.mpr z)) (br_f b (br_t (t3.mpr d) ⟨hi, br_t (Int32.not_le.mp w) ⟨hi, nm_e ⟨by trivial, tp_in hC⟩⟩⟩)))
theorem i_vc_distrust {k : Nat} {u : SX} {v : SY} (I : i_Rel k u v) (hk : k + 4 ≤ 2048) (v1 : Int32) : wpX_distrust (fun r u' => wpY_distrust (fun r' v' => r' = r ∧ i_Rel (k + 4) u' v') v v1) u v1 := by
  refine tp_el (M := fun u v => wpX_distrust (fun r u' => wpY_distrust (fun r' v' => r' = r ∧ i_Rel (k + 4) u' v') v v1) u v1) ?_ I
  intro f_states f_rounds f_timeAt f_without f_pathLength a_issuerName a_issuerKey a_subjectName a_subjectKey a_goodFrom a_goodTo a_settings a_revokedFrom a_isHeld a_anchors a_stateOf a_openNames a_mayCome a_common a_before a_roundBegins a_path f_valid a_lengths a_steps a_found b_common a_list a_nexts a_names a_policyLeft a_room n hC
  have t2 : v1 ≤ 2 ↔ v1 < 3 := tp_le_lt' (by decide) v1
  simp only [wpX_distrust]
  refine tp_xIsAnchor (fun a => br_f (by decide) ?_) (fun a => br_t rfl ?_)
  · obtain ⟨c, hc, rfl⟩ : ∃ c, c < 3 ∧ v1 = nI c := by
      rcases pk_ix v1 (n := 3) (by omega) with z | z | z
      · exact absurd z a.1
      · exact absurd z a.2
      · exact z
    have e : (nI c).toNatClampNeg = c := nI_clamp (by omega)
    have hi : vp_in (nI c) 3 := vp_in_nI (by omega) (by omega)
    simp only [e]
    refine ⟨hi, br_c (fun w => ⟨hi, nm_e ?_⟩) (fun w => ?_)⟩
    · simp only [wpY_distrust, e]
      exact br_f a.1 (br_t (t2.mpr (Int32.not_le.mp a.2)) ⟨hi, br_t w ⟨hi, nm_e ⟨by trivial, tp_in hC⟩⟩⟩)
    · simp only [wpY_distrust, e]
      exact br_f a.1 (br_t (t2.mpr (Int32.not_le.mp a.2)) ⟨hi, br_f w ⟨by trivial, tp_in hC⟩⟩)
  · simp only [wpY_distrust]
    exact br_c (fun _ => ⟨by trivial, tp_in hC⟩) (fun b => br_f (fun z => a ⟨b, Int32.not_le.mpr (t2.mp z)⟩) ⟨by trivial, tp_in hC⟩)
theorem i_vc_make {k : Nat} {u : SX} {v : SY} (I : i_Rel k u v) (hk : k + 4 ≤ 2048) (v1 : Int32) (v2 : Int32) : wpX_make (fun r u' => wpY_make (fun r' v' => r' = r ∧ i_Rel (k + 4) u' v') v v1 v2) u v1 v2 := by
  refine tp_el (M := fun u v => wpX_make (fun r u' => wpY_make (fun r' v' => r' = r ∧ i_Rel (k + 4) u' v') v v1 v2) u v1 v2) ?_ I
  intro f_states f_rounds f_timeAt f_without f_pathLength a_issuerName a_issuerKey a_subjectName a_subjectKey a_goodFrom a_goodTo a_settings a_revokedFrom a_isHeld a_anchors a_stateOf a_openNames a_mayCome a_common a_before a_roundBegins a_path f_valid a_lengths a_steps a_found b_common a_list a_nexts a_names a_policyLeft a_room n hC
  have hn := hC.1
  have t2 : (64 : Int32) ≤ v1 ↔ 63 < v1 := tp_le_lt (by decide) v1
  have t3 : v2 ≤ 99 ↔ v2 < 100 := tp_le_lt' (by decide) v2
  by_cases hA : ¬ v1 < 0 ∧ ¬ 64 ≤ v1 ∧ ¬ v2 < 0 ∧ v2 < 100
  · obtain ⟨a1, a2, a3, a4⟩ := hA
    have a2' : ¬ 63 < v1 := fun z => a2 (t2.mpr z)
    have a4' : v2 ≤ 99 := t3.mpr a4
    by_cases hB : n = 12
    · subst hB
      simp only [wpX_make]
      refine br_f a1 (br_f a2 (br_f a3 (br_t a4 (br_f (by decide) ?_))))
      simp only [wpY_make]
      exact br_f a1 (br_f a2' (br_f a3 (br_t a4' (br_t rfl ⟨by trivial, tp_in hC⟩))))
    · obtain ⟨a, ha, rfl⟩ : ∃ a, a < 64 ∧ v1 = nI a := by
        rcases pk_ix v1 (n := 64) (by omega) with z | z | z
        · exact absurd z a1
        · exact absurd z a2
        · exact z
      obtain ⟨b, hb, rfl⟩ : ∃ b, b < 100 ∧ v2 = nI b := by
        rcases pk_ix v2 (n := 100) (by omega) with z | z | z
        · exact absurd z a3
        · exact absurd a4 (Int32.not_lt.mpr z)
        · exact z
      have hn12 : n < 12 := by omega
      have en : (nI n).toNatClampNeg = n := nI_clamp (by omega)
      have hi : vp_in (nI n) 12 := vp_in_nI (by omega) (by omega)
      have d1 : nI a / 8 = nI (a / 8) := pk_div (d := 8) (by omega) (by omega) (by omega)
      have d2 : nI a - nI (a / 8) * 8 = nI (a % 8) := by rw [← d1]; exact pk_rem (d := 8) (by omega) (by omega) (by omega)
      have d3 : nI b / 10 = nI (b / 10) := pk_div (d := 10) (by omega) (by omega) (by omega)
      have d4 : nI b - nI (b / 10) * 10 = nI (b % 10) := by rw [← d3]; exact pk_rem (d := 10) (by omega) (by omega) (by omega)
      have e0 : ((5 : Int32) * nI n).toNatClampNeg = 5 * n := by rw [tp_mul5]; exact nI_clamp (by omega)
      have i0 : vp_in ((5 : Int32) * nI n) 60 := by rw [tp_mul5]; exact vp_in_nI (by omega) (by omega)
      have e1 : ((5 : Int32) * nI n + 1).toNatClampNeg = 5 * n + 1 := by rw [show (1 : Int32) = nI 1 from rfl, tp_mul5a]; exact nI_clamp (by omega)
      have i1 : vp_in ((5 : Int32) * nI n + 1) 60 := by rw [show (1 : Int32) = nI 1 from rfl, tp_mul5a]; exact vp_in_nI (by omega) (by omega)
      have e2 : ((5 : Int32) * nI n + 2).toNatClampNeg = 5 * n + 2 := by rw [show (2 : Int32) = nI 2 from rfl, tp_mul5a]; exact nI_clamp (by omega)
      have i2 : vp_in ((5 : Int32) * nI n + 2) 60 := by rw [show (2 : Int32) = nI 2 from rfl, tp_mul5a]; exact vp_in_nI (by omega) (by omega)
      have e3 : ((5 : Int32) * nI n + 3).toNatClampNeg = 5 * n + 3 := by rw [show (3 : Int32) = nI 3 from rfl, tp_mul5a]; exact nI_clamp (by omega)
      have i3 : vp_in ((5 : Int32) * nI n + 3) 60 := by rw [show (3 : Int32) = nI 3 from rfl, tp_mul5a]; exact vp_in_nI (by omega) (by omega)
      have e4 : ((5 : Int32) * nI n + 4).toNatClampNeg = 5 * n + 4 := by rw [show (4 : Int32) = nI 4 from rfl, tp_mul5a]; exact nI_clamp (by omega)
      have i4 : vp_in ((5 : Int32) * nI n + 4) 60 := by rw [show (4 : Int32) = nI 4 from rfl, tp_mul5a]; exact vp_in_nI (by omega) (by omega)
      have z8 : ¬ (8 : Int32) = 0 := by decide
      have z10 : ¬ (10 : Int32) = 0 := by decide
      have g0 := hC.2.2.2 n (Nat.le_refl _)
      have eg : upd a_goodFrom n 0 = a_goodFrom := by
        funext j
        by_cases z : j = n
        · rw [z, pk_us, g0.1]
        · rw [pk_un z]
      have es : upd (upd (upd (upd (upd a_settings (5 * n) 1) (5 * n + 1) 4) (5 * n + 2) 255) (5 * n + 3) 0) (5 * n + 4) 15 = upd (upd (upd (upd a_settings (5 * n) 1) (5 * n + 1) 4) (5 * n + 2) 255) (5 * n + 4) 15 := by
        funext j
        by_cases z4 : j = 5 * n + 4
        · rw [z4, pk_us, pk_us]
        · rw [pk_un z4, pk_un z4]
          by_cases z3 : j = 5 * n + 3
          · rw [z3, pk_us, pk_un (by omega), pk_un (by omega), pk_un (by omega), g0.2]
          · rw [pk_un z3]
      simp only [wpX_make, en, d1, d2, d3, d4, e0, e1, e2, e4]
      refine br_f a1 (br_f a2 (br_f a3 (br_t a4 (br_t (nI_lt (b := 12) hn12 (by omega)) (nm_r (nI_1 n) ⟨z8, hi, nm_e ⟨z8, hi, nm_e ⟨z10, hi, nm_e ⟨z10, hi, nm_e ⟨hi, nm_e ⟨i0, nm_e ⟨i1, nm_e ⟨i2, nm_e ⟨i4, nm_e ⟨hi, nm_e ?_⟩⟩⟩⟩⟩⟩⟩⟩⟩⟩)))))
      simp only [wpY_make, en, d1, d2, d3, d4, e0, e1, e2, e3, e4]
      have hne : ¬ nI n = 12 := fun z => hB ((nI_eq (a := n) (b := 12) (by omega) (by omega)).mp z)
      refine br_f a1 (br_f a2' (br_f a3 (br_t a4' (br_f hne ⟨z8, hi, nm_e ⟨z8, hi, nm_e ⟨z10, hi, nm_e ⟨z10, hi, nm_e ⟨hi, nm_r eg ⟨hi, nm_e ⟨i0, nm_e ⟨i1, nm_e ⟨i2, nm_e ⟨i3, nm_e ⟨i4, nm_r es ⟨hi, nm_e (nm_r (nI_1 n) ⟨by trivial, tp_in ?_⟩)⟩⟩⟩⟩⟩⟩⟩⟩⟩⟩⟩⟩))))
      refine ⟨by omega, fun d hd => ?_, fun d hd => ?_, fun d hd => ?_⟩
      · by_cases z : d = n
        · rw [z, pk_us, pk_us, pk_us, pk_us]
          exact ⟨⟨a / 8, by omega, rfl⟩, ⟨b / 10, by omega, rfl⟩, ⟨a % 8, by omega, rfl⟩, ⟨b % 10, by omega, rfl⟩⟩
        · rw [pk_un z, pk_un z, pk_un z, pk_un z]
          exact hC.2.1 d (by omega)
      · by_cases z : d = n
        · rw [z]
          refine ⟨⟨4, by omega, ?_⟩, ⟨15, by omega, ?_⟩, ?_⟩
          · rw [pk_un (by omega), pk_un (by omega), pk_us]
            rfl
          · rw [pk_us]
            rfl
          · rw [pk_us]
            exact Or.inl rfl
        · obtain ⟨q1, q2, q3⟩ := hC.2.2.1 d (by omega)
          rw [pk_un (by omega), pk_un (by omega), pk_un (by omega), pk_un (by omega), pk_un (by omega), pk_un (by omega), pk_un (by omega), pk_un (by omega), pk_un z]
          exact ⟨q1, q2, q3⟩
      · obtain ⟨q1, q2⟩ := hC.2.2.2 d (by omega)
        rw [pk_un (by omega), pk_un (by omega), pk_un (by omega), pk_un (by omega)]
        exact ⟨q1, q2⟩
  · have YB : wpY_make (fun r' v' => r' = -1 ∧ i_Rel (k + 4) (nI n, f_states, f_rounds, f_timeAt, f_without, f_pathLength, a_issuerName, a_issuerKey, a_subjectName, a_subjectKey, a_goodFrom, a_goodTo, a_settings, a_revokedFrom, a_isHeld, a_anchors, a_stateOf, a_openNames, a_mayCome, a_common, a_before, a_roundBegins, a_path) v') (nI n, f_valid, a_issuerName, a_subjectName, a_issuerKey, a_subjectKey, a_goodFrom, a_goodTo, a_settings, a_revokedFrom, a_isHeld, a_anchors, a_lengths, a_steps, a_found, b_common, a_list, a_nexts, a_names, a_policyLeft, a_room) v1 v2 := by
      simp only [wpY_make]
      exact br_c (fun _ => ⟨by trivial, tp_in hC⟩) (fun a => br_c (fun _ => ⟨by trivial, tp_in hC⟩) (fun b => br_c (fun _ => ⟨by trivial, tp_in hC⟩) (fun d => br_f (fun e => hA ⟨a, fun z => b (t2.mp z), d, t3.mp e⟩) ⟨by trivial, tp_in hC⟩)))
    simp only [wpX_make]
    exact br_c (fun _ => YB) (fun a => br_c (fun _ => YB) (fun b => br_c (fun _ => YB) (fun d => br_f (fun e => hA ⟨a, b, d, e⟩) YB)))
end
section
/-! the questions -/
def tp_gd (n : Nat) (ti : Int32) (gf gt rv hd : Nat → Int32) : Nat → Bool := fun c => decide (c < n ∧ hd c = 0 ∧ ¬ ti < gf c ∧ ¬ gt c < ti ∧ ¬ rv c ≤ ti)
def tp_gx (gd : Nat → Bool) (x : Nat) : Nat → Bool := fun c => gd c && decide (¬ c = x)
section
variable {n : Nat} {ti : Int32} {gf gt rv hd : Nat → Int32}
theorem tp_gd_iff (c : Nat) : tp_gd n ti gf gt rv hd c = true ↔ (c < n ∧ hd c = 0 ∧ ¬ ti < gf c ∧ ¬ gt c < ti ∧ ¬ rv c ≤ ti) := decide_eq_true_iff
theorem tp_gd_n : ∀ x, tp_gd n ti gf gt rv hd x = true → x < n := fun x h => ((tp_gd_iff x).mp h).1
theorem tp_gx_iff {gd : Nat → Bool} {x c : Nat} : tp_gx gd x c = true ↔ gd c = true ∧ ¬ c = x := by
  unfold tp_gx
  rw [Bool.and_eq_true, decide_eq_true_iff]
theorem tp_gx_n {gd : Nat → Bool} {y : Nat} (h : ∀ x, gd x = true → x < n) : ∀ x, tp_gx gd y x = true → x < n := fun x k => h x (tp_gx_iff.mp k).1
theorem tp_gd_G (hn : n ≤ 12) : tp_Gd n (tp_gd n ti gf gt rv hd) (-1) ti gf gt rv hd := by
  intro c hc
  rw [tp_gd_iff]
  refine ⟨fun h => ⟨fun z => ?_, h.2⟩, fun h => ⟨hc, h.2⟩⟩
  have hp : ¬ nI c < 0 := nI_pos (by omega)
  rw [z] at hp
  exact hp (by decide)
theorem tp_gd_Gx (hn : n ≤ 12) {x : Nat} (hx : x < n) : tp_Gd n (tp_gx (tp_gd n ti gf gt rv hd) x) (nI x) ti gf gt rv hd := by
  intro c hc
  rw [tp_gx_iff, tp_gd_iff, nI_eq (by omega) (by omega)]
  exact ⟨fun h => ⟨h.2, h.1.2⟩, fun h => ⟨⟨hc, h.2⟩, h.1⟩⟩
theorem tp_gd_V (hn : n ≤ 12) {r : Int32} (h : ∀ b, b < 32 → (bt r b = true ↔ b < n ∧ (hd b = 0 ∧ ¬ ti < gf b ∧ ¬ gt b < ti ∧ ¬ rv b ≤ ti))) : ∀ c, c < n → (bt r c = true ↔ tp_gd n ti gf gt rv hd c = true) := by
  intro c hc
  rw [h c (by omega), tp_gd_iff]
theorem tp_gd_Vx (hn : n ≤ 12) {x : Nat} (hx : x < n) {r : Int32} (h : ∀ b, b < 32 → (bt r b = true ↔ b < n ∧ (hd b = 0 ∧ ¬ ti < gf b ∧ ¬ gt b < ti ∧ ¬ rv b ≤ ti))) :
    ∀ c, c < n → (bt (r &&& (((1 : Int32) <<< (nI x &&& 31)) ^^^ (-1))) c = true ↔ tp_gx (tp_gd n ti gf gt rv hd) x c = true) := by
  intro c hc
  rw [b_and, b_xor, b_m1 c (by omega), tp_b1c (by omega) c (by omega), Bool.and_eq_true, tp_gx_iff, ← tp_gd_V hn h c hc]
  by_cases z : c = x <;> simp [z]
end
theorem tp_Acc_pos {g : tp_Cf} (hg : ∀ x, g.1 x = true → x < 12) {ln st fo co : Nat → Int32} (A : tp_Acc g (tp_Ev g) ln st fo co) {c : Nat} (hc : c < 12) : ¬ ln c ≤ 0 ↔ tp_Walk g (tp_fin g) c := by
  have h0 := tp_Acc_none hg A hc
  rcases (A c hc).1 with ⟨z1, _⟩ | ⟨P, _, p2, p3, _⟩
  · rw [z1]
    exact ⟨fun y => absurd (by decide) y, fun w => absurd w (h0.mp z1)⟩
  · have hne : ¬ ln c ≤ 0 := by
      rw [p3]
      exact nI_nle (by omega) (by omega)
    refine ⟨fun _ => ?_, fun _ => hne⟩
    by_cases w : tp_Walk g (tp_fin g) c
    · exact w
    · have := h0.mpr w
      rw [this] at hne
      exact absurd (by decide) hne
theorem i_vc_trusted {k : Nat} {u : SX} {v : SY} (I : i_Rel k u v) (hk : k + 4 ≤ 2048) (v1 : Int32) (v2 : Int32) : wpX_trusted (fun r u' => wpY_trusted (fun r' v' => r' = r ∧ i_Rel (k + 4) u' v') v v1 v2) u v1 v2 := by
  refine tp_el (M := fun u v => wpX_trusted (fun r u' => wpY_trusted (fun r' v' => r' = r ∧ i_Rel (k + 4) u' v') v v1 v2) u v1 v2) ?_ I
  intro f_states f_rounds f_timeAt f_without f_pathLength a_issuerName a_issuerKey a_subjectName a_subjectKey a_goodFrom a_goodTo a_settings a_revokedFrom a_isHeld a_anchors a_stateOf a_openNames a_mayCome a_common a_before a_roundBegins a_path f_valid a_lengths a_steps a_found b_common a_list a_nexts a_names a_policyLeft a_room n hC
  have hn := hC.1
  by_cases hA : tp_ce n v1 ∧ tp_tm v2
  · have hA' := hA
    obtain ⟨⟨c, hc, rfl⟩, ht⟩ := hA'
    have e : (nI c).toNatClampNeg = c := nI_clamp (by omega)
    have hi : vp_in (nI c) 12 := vp_in_nI (by omega) (by omega)
    have hgn : ∀ x, tp_gd n v2 a_goodFrom a_goodTo a_revokedFrom a_isHeld x = true → x < n := tp_gd_n
    have hg12 : ∀ x, tp_gd n v2 a_goodFrom a_goodTo a_revokedFrom a_isHeld x = true → x < 12 := fun x hx => Nat.lt_of_lt_of_le (hgn x hx) hn
    have hG : tp_Gd n (tp_gd n v2 a_goodFrom a_goodTo a_revokedFrom a_isHeld) (-1) v2 a_goodFrom a_goodTo a_revokedFrom a_isHeld := tp_gd_G hn
    have hL : ∀ c, c < n → ∃ lim, lim < 5 ∧ a_settings (5 * c + 1) = nI lim := fun c hc => (hC.2.2.1 c hc).1
    simp only [wpX_trusted]
    refine tp_xAsk hn (fun _ _ => br_f (by decide) ?_) (fun z => absurd hA z)
    refine tp_xFind (gd := tp_gd n v2 a_goodFrom a_goodTo a_revokedFrom a_isHeld) hn hgn hG hL ?_
    intro Q N so on mc co be rd rb hF T hl
    refine tp_xFirstW (gd := tp_gd n v2 a_goodFrom a_goodTo a_revokedFrom a_isHeld) hn hG hF T hl hc (fun r hr w => br_f hr ?_) (fun w => br_t rfl ?_)
    · simp only [wpY_trusted, e]
      refine tp_yAsk hn (fun _ _ => br_t rfl (tp_yValid hn (fun set hset => ?_))) (fun z => absurd hA z)
      refine tp_ySearch (gd := tp_gd n v2 a_goodFrom a_goodTo a_revokedFrom a_isHeld) hn hgn (tp_gd_V hn hset) hC.2.1 hL ?_
      intro ln st fo cm li nx na pl ro A
      exact ⟨hi, br_f ((tp_Acc_pos hg12 A (by omega)).mpr w) ⟨by trivial, tp_in hC⟩⟩
    · simp only [wpY_trusted, e]
      refine tp_yAsk hn (fun _ _ => br_t rfl (tp_yValid hn (fun set hset => ?_))) (fun z => absurd hA z)
      refine tp_ySearch (gd := tp_gd n v2 a_goodFrom a_goodTo a_revokedFrom a_isHeld) hn hgn (tp_gd_V hn hset) hC.2.1 hL ?_
      intro ln st fo cm li nx na pl ro A
      exact ⟨hi, br_t (Classical.byContradiction (fun z => w ((tp_Acc_pos hg12 A (by omega)).mp z))) ⟨by trivial, tp_in hC⟩⟩
  · simp only [wpX_trusted]
    refine tp_xAsk hn (fun a b => absurd ⟨a, b⟩ hA) (fun _ => br_t rfl ?_)
    simp only [wpY_trusted]
    exact tp_yAsk hn (fun a b => absurd ⟨a, b⟩ hA) (fun _ => br_f (by decide) ⟨by trivial, tp_in hC⟩)
theorem i_vc_length {k : Nat} {u : SX} {v : SY} (I : i_Rel k u v) (hk : k + 4 ≤ 2048) (v1 : Int32) (v2 : Int32) : wpX_length (fun r u' => wpY_length (fun r' v' => r' = r ∧ i_Rel (k + 4) u' v') v v1 v2) u v1 v2 := by
  refine tp_el (M := fun u v => wpX_length (fun r u' => wpY_length (fun r' v' => r' = r ∧ i_Rel (k + 4) u' v') v v1 v2) u v1 v2) ?_ I
  intro f_states f_rounds f_timeAt f_without f_pathLength a_issuerName a_issuerKey a_subjectName a_subjectKey a_goodFrom a_goodTo a_settings a_revokedFrom a_isHeld a_anchors a_stateOf a_openNames a_mayCome a_common a_before a_roundBegins a_path f_valid a_lengths a_steps a_found b_common a_list a_nexts a_names a_policyLeft a_room n hC
  have hn := hC.1
  by_cases hA : tp_ce n v1 ∧ tp_tm v2
  · have hA' := hA
    obtain ⟨⟨c, hc, rfl⟩, ht⟩ := hA'
    have e : (nI c).toNatClampNeg = c := nI_clamp (by omega)
    have hi : vp_in (nI c) 12 := vp_in_nI (by omega) (by omega)
    have hgn : ∀ x, tp_gd n v2 a_goodFrom a_goodTo a_revokedFrom a_isHeld x = true → x < n := tp_gd_n
    have hg12 : ∀ x, tp_gd n v2 a_goodFrom a_goodTo a_revokedFrom a_isHeld x = true → x < 12 := fun x hx => Nat.lt_of_lt_of_le (hgn x hx) hn
    have hG : tp_Gd n (tp_gd n v2 a_goodFrom a_goodTo a_revokedFrom a_isHeld) (-1) v2 a_goodFrom a_goodTo a_revokedFrom a_isHeld := tp_gd_G hn
    have hL : ∀ c, c < n → ∃ lim, lim < 5 ∧ a_settings (5 * c + 1) = nI lim := fun c hc => (hC.2.2.1 c hc).1
    simp only [wpX_length]
    refine tp_xAsk hn (fun _ _ => br_f (by decide) ?_) (fun z => absurd hA z)
    refine tp_xFind (gd := tp_gd n v2 a_goodFrom a_goodTo a_revokedFrom a_isHeld) hn hgn hG hL ?_
    intro Q N so on mc co be rd rb hF T hl
    refine tp_xPath (gd := tp_gd n v2 a_goodFrom a_goodTo a_revokedFrom a_isHeld) hn hG hF T hl hc (fun w => br_t rfl ?_) (fun P pa hB hpa => br_f (by decide) ?_)
    · simp only [wpY_length, e]
      refine tp_yAsk hn (fun _ _ => br_t rfl (tp_yValid hn (fun set hset => ?_))) (fun z => absurd hA z)
      refine tp_ySearch (gd := tp_gd n v2 a_goodFrom a_goodTo a_revokedFrom a_isHeld) hn hgn (tp_gd_V hn hset) hC.2.1 hL ?_
      intro ln st fo cm li nx na pl ro A
      exact ⟨hi, br_t (Classical.byContradiction (fun z => w ((tp_Acc_pos hg12 A (by omega)).mp z))) ⟨by trivial, tp_in hC⟩⟩
    · have w : tp_Walk (tp_gd n v2 a_goodFrom a_goodTo a_revokedFrom a_isHeld, a_issuerName, a_issuerKey, a_subjectName, a_subjectKey, a_settings, a_anchors) (tp_fin (tp_gd n v2 a_goodFrom a_goodTo a_revokedFrom a_isHeld, a_issuerName, a_issuerKey, a_subjectName, a_subjectKey, a_settings, a_anchors)) c := ⟨P, hB.2.1, hB.1, hB.2.2.1⟩
      simp only [wpY_length, e]
      refine tp_yAsk hn (fun _ _ => br_t rfl (tp_yValid hn (fun set hset => ?_))) (fun z => absurd hA z)
      refine tp_ySearch (gd := tp_gd n v2 a_goodFrom a_goodTo a_revokedFrom a_isHeld) hn hgn (tp_gd_V hn hset) hC.2.1 hL ?_
      intro ln st fo cm li nx na pl ro A
      obtain ⟨P', hB', hln, _⟩ := tp_Acc_best hg12 A (by omega : c < 12) w
      have eP := tp_Best_uni hg12 hB hB'
      subst eP
      exact ⟨hi, br_f ((tp_Acc_pos hg12 A (by omega)).mpr w) ⟨hi, hln, tp_in hC⟩⟩
  · simp only [wpX_length]
    refine tp_xAsk hn (fun a b => absurd ⟨a, b⟩ hA) (fun _ => br_t rfl ?_)
    simp only [wpY_length]
    exact tp_yAsk hn (fun a b => absurd ⟨a, b⟩ hA) (fun _ => br_f (by decide) ⟨by trivial, tp_in hC⟩)
theorem i_vc_step {k : Nat} {u : SX} {v : SY} (I : i_Rel k u v) (hk : k + 4 ≤ 2048) (v1 : Int32) (v2 : Int32) (v3 : Int32) : wpX_step (fun r u' => wpY_step (fun r' v' => r' = r ∧ i_Rel (k + 4) u' v') v v1 v2 v3) u v1 v2 v3 := by
  refine tp_el (M := fun u v => wpX_step (fun r u' => wpY_step (fun r' v' => r' = r ∧ i_Rel (k + 4) u' v') v v1 v2 v3) u v1 v2 v3) ?_ I
  intro f_states f_rounds f_timeAt f_without f_pathLength a_issuerName a_issuerKey a_subjectName a_subjectKey a_goodFrom a_goodTo a_settings a_revokedFrom a_isHeld a_anchors a_stateOf a_openNames a_mayCome a_common a_before a_roundBegins a_path f_valid a_lengths a_steps a_found b_common a_list a_nexts a_names a_policyLeft a_room n hC
  have hn := hC.1
  by_cases hA : tp_ce n v1 ∧ tp_tm v2
  · have hA' := hA
    obtain ⟨⟨c, hc, rfl⟩, ht⟩ := hA'
    have e : (nI c).toNatClampNeg = c := nI_clamp (by omega)
    have hi : vp_in (nI c) 12 := vp_in_nI (by omega) (by omega)
    have hgn : ∀ x, tp_gd n v2 a_goodFrom a_goodTo a_revokedFrom a_isHeld x = true → x < n := tp_gd_n
    have hg12 : ∀ x, tp_gd n v2 a_goodFrom a_goodTo a_revokedFrom a_isHeld x = true → x < 12 := fun x hx => Nat.lt_of_lt_of_le (hgn x hx) hn
    have hG : tp_Gd n (tp_gd n v2 a_goodFrom a_goodTo a_revokedFrom a_isHeld) (-1) v2 a_goodFrom a_goodTo a_revokedFrom a_isHeld := tp_gd_G hn
    have hL : ∀ c, c < n → ∃ lim, lim < 5 ∧ a_settings (5 * c + 1) = nI lim := fun c hc => (hC.2.2.1 c hc).1
    simp only [wpX_step]
    refine tp_xAsk hn (fun _ _ => br_f (by decide) ?_) (fun z => absurd hA z)
    refine tp_xFind (gd := tp_gd n v2 a_goodFrom a_goodTo a_revokedFrom a_isHeld) hn hgn hG hL ?_
    intro Q N so on mc co be rd rb hF T hl
    refine tp_xPath (gd := tp_gd n v2 a_goodFrom a_goodTo a_revokedFrom a_isHeld) hn hG hF T hl hc (fun w => br_t rfl ?_) (fun P pa hB hpa => br_f (by decide) ?_)
    · simp only [wpY_step, e]
      refine tp_yAsk hn (fun _ _ => br_t rfl (tp_yValid hn (fun set hset => ?_))) (fun z => absurd hA z)
      refine tp_ySearch (gd := tp_gd n v2 a_goodFrom a_goodTo a_revokedFrom a_isHeld) hn hgn (tp_gd_V hn hset) hC.2.1 hL ?_
      intro ln st fo cm li nx na pl ro A
      refine br_c (fun _ => ⟨by trivial, tp_in hC⟩) (fun y => ⟨hi, br_f ?_ ⟨by trivial, tp_in hC⟩⟩)
      show ¬ v3 < ln c
      rw [(tp_Acc_none hg12 A (by omega)).mpr w]
      exact y
    · have hP5 := hB.2.1
      have w : tp_Walk (tp_gd n v2 a_goodFrom a_goodTo a_revokedFrom a_isHeld, a_issuerName, a_issuerKey, a_subjectName, a_subjectKey, a_settings, a_anchors) (tp_fin (tp_gd n v2 a_goodFrom a_goodTo a_revokedFrom a_isHeld, a_issuerName, a_issuerKey, a_subjectName, a_subjectKey, a_settings, a_anchors)) c := ⟨P, hB.2.1, hB.1, hB.2.2.1⟩
      refine br_c (fun y => ?_) (fun y => br_c (fun y2 => ?_) (fun y2 => ?_))
      · simp only [wpY_step, e]
        refine tp_yAsk hn (fun _ _ => br_t rfl (tp_yValid hn (fun set hset => ?_))) (fun z => absurd hA z)
        refine tp_ySearch (gd := tp_gd n v2 a_goodFrom a_goodTo a_revokedFrom a_isHeld) hn hgn (tp_gd_V hn hset) hC.2.1 hL ?_
        intro ln st fo cm li nx na pl ro A
        exact br_t y ⟨by trivial, tp_in hC⟩
      · simp only [wpY_step, e]
        refine tp_yAsk hn (fun _ _ => br_t rfl (tp_yValid hn (fun set hset => ?_))) (fun z => absurd hA z)
        refine tp_ySearch (gd := tp_gd n v2 a_goodFrom a_goodTo a_revokedFrom a_isHeld) hn hgn (tp_gd_V hn hset) hC.2.1 hL ?_
        intro ln st fo cm li nx na pl ro A
        obtain ⟨P', hB', hln, _⟩ := tp_Acc_best hg12 A (by omega : c < 12) w
        have eP := tp_Best_uni hg12 hB hB'
        subst eP
        refine br_f y ⟨hi, br_f ?_ ⟨by trivial, tp_in hC⟩⟩
        show ¬ v3 < ln c
        rw [hln]
        exact Int32.not_lt.mpr y2
      · obtain ⟨i, hi2, rfl⟩ : ∃ i, i < P.length + 1 ∧ v3 = nI i := by
          rcases pk_ix v3 (n := P.length + 1) (by omega) with z | z | z
          · exact absurd z y
          · exact absurd z y2
          · exact z
        have ei : (nI i).toNatClampNeg = i := nI_clamp (by omega)
        have hlen : i < (P ++ [c]).length := by rw [tp_len_snoc]; exact hi2
        have ex : (P ++ [c])[i]? = some (P ++ [c])[i] := List.getElem?_eq_getElem hlen
        have m6 : (6 : Int32) * nI c + nI i = nI (6 * c + i) := by rw [show (6 : Int32) = nI 6 from rfl, pk_mul, nI_add]
        have e6 : (nI (6 * c + i)).toNatClampNeg = 6 * c + i := nI_clamp (by omega)
        refine ⟨vp_in_nI (by omega) (by omega), ?_⟩
        show wpY_step (fun r' v' => r' = pa (nI i).toNatClampNeg ∧ i_Rel (k + 4) (nI n, nI N, rd, v2, -1, nI (P.length + 1), a_issuerName, a_issuerKey, a_subjectName, a_subjectKey, a_goodFrom, a_goodTo, a_settings, a_revokedFrom, a_isHeld, a_anchors, so, on, mc, co, be, rb, pa) v') (nI n, f_valid, a_issuerName, a_subjectName, a_issuerKey, a_subjectKey, a_goodFrom, a_goodTo, a_settings, a_revokedFrom, a_isHeld, a_anchors, a_lengths, a_steps, a_found, b_common, a_list, a_nexts, a_names, a_policyLeft, a_room) (nI c) v2 (nI i)
        rw [ei, hpa i _ ex]
        simp only [wpY_step, e, m6, e6]
        refine tp_yAsk hn (fun _ _ => br_t rfl (tp_yValid hn (fun set hset => ?_))) (fun z => absurd hA z)
        refine tp_ySearch (gd := tp_gd n v2 a_goodFrom a_goodTo a_revokedFrom a_isHeld) hn hgn (tp_gd_V hn hset) hC.2.1 hL ?_
        intro ln st fo cm li nx na pl ro A
        obtain ⟨P', hB', hln, hst⟩ := tp_Acc_best hg12 A (by omega : c < 12) w
        have eP := tp_Best_uni hg12 hB hB'
        subst eP
        refine br_f y ⟨hi, br_t ?_ ⟨vp_in_nI (by omega) (by omega), hst i _ ex, tp_in hC⟩⟩
        show nI i < ln c
        rw [hln]
        exact nI_lt hi2 (by omega)
  · simp only [wpX_step]
    refine tp_xAsk hn (fun a b => absurd ⟨a, b⟩ hA) (fun _ => br_t rfl ?_)
    simp only [wpY_step]
    exact tp_yAsk hn (fun a b => absurd ⟨a, b⟩ hA) (fun _ => br_f (by decide) ⟨by trivial, tp_in hC⟩)
theorem i_vc_policies {k : Nat} {u : SX} {v : SY} (I : i_Rel k u v) (hk : k + 4 ≤ 2048) (v1 : Int32) (v2 : Int32) : wpX_policies (fun r u' => wpY_policies (fun r' v' => r' = r ∧ i_Rel (k + 4) u' v') v v1 v2) u v1 v2 := by
  refine tp_el (M := fun u v => wpX_policies (fun r u' => wpY_policies (fun r' v' => r' = r ∧ i_Rel (k + 4) u' v') v v1 v2) u v1 v2) ?_ I
  intro f_states f_rounds f_timeAt f_without f_pathLength a_issuerName a_issuerKey a_subjectName a_subjectKey a_goodFrom a_goodTo a_settings a_revokedFrom a_isHeld a_anchors a_stateOf a_openNames a_mayCome a_common a_before a_roundBegins a_path f_valid a_lengths a_steps a_found b_common a_list a_nexts a_names a_policyLeft a_room n hC
  have hn := hC.1
  by_cases hA : tp_ce n v1 ∧ tp_tm v2
  · have hA' := hA
    obtain ⟨⟨c, hc, rfl⟩, ht⟩ := hA'
    have e : (nI c).toNatClampNeg = c := nI_clamp (by omega)
    have hi : vp_in (nI c) 12 := vp_in_nI (by omega) (by omega)
    have hgn : ∀ x, tp_gd n v2 a_goodFrom a_goodTo a_revokedFrom a_isHeld x = true → x < n := tp_gd_n
    have hg12 : ∀ x, tp_gd n v2 a_goodFrom a_goodTo a_revokedFrom a_isHeld x = true → x < 12 := fun x hx => Nat.lt_of_lt_of_le (hgn x hx) hn
    have hG : tp_Gd n (tp_gd n v2 a_goodFrom a_goodTo a_revokedFrom a_isHeld) (-1) v2 a_goodFrom a_goodTo a_revokedFrom a_isHeld := tp_gd_G hn
    have hL : ∀ c, c < n → ∃ lim, lim < 5 ∧ a_settings (5 * c + 1) = nI lim := fun c hc => (hC.2.2.1 c hc).1
    simp only [wpX_policies]
    refine tp_xAsk hn (fun _ _ => br_f (by decide) ?_) (fun z => absurd hA z)
    refine tp_xFind (gd := tp_gd n v2 a_goodFrom a_goodTo a_revokedFrom a_isHeld) hn hgn hG hL ?_
    intro Q N so on mc co be rd rb hF T hl
    refine tp_xPol (gd := tp_gd n v2 a_goodFrom a_goodTo a_revokedFrom a_isHeld) hn hG hF T hl hc (hC.2.2.1 c hc).2.1 ?_
    intro r hr
    simp only [wpY_policies, e]
    refine tp_yAsk hn (fun _ _ => br_t rfl (tp_yValid hn (fun set hset => ?_))) (fun z => absurd hA z)
    refine tp_ySearch (gd := tp_gd n v2 a_goodFrom a_goodTo a_revokedFrom a_isHeld) hn hgn (tp_gd_V hn hset) hC.2.1 hL ?_
    intro ln st fo cm li nx na pl ro A
    refine ⟨hi, b_ext (fun b hb => ?_), tp_in hC⟩
    exact Bool.eq_iff_iff.mpr ((tp_Acc_found hg12 A (by omega) hb).trans (hr b hb).symm)
  · simp only [wpX_policies]
    refine tp_xAsk hn (fun a b => absurd ⟨a, b⟩ hA) (fun _ => br_t rfl ?_)
    simp only [wpY_policies]
    exact tp_yAsk hn (fun a b => absurd ⟨a, b⟩ hA) (fun _ => br_f (by decide) ⟨by trivial, tp_in hC⟩)
theorem tp_cnt_12 {n : Nat} (hn : n ≤ 12) {r : Int32} {V : Nat → Prop} (h : ∀ b, b < 32 → (bt r b = true ↔ b < n ∧ V b)) : tp_cnt (bt r) 12 = tp_cnt (bt r) n := by
  have e : 12 = n + (12 - n) := by omega
  rw [e]
  refine tp_cnt_far (fun i hi => ?_) (12 - n)
  rcases Nat.lt_or_ge i 32 with z | z
  · have := h i z
    cases hb : bt r i with
    | false => rfl
    | true =>
      have := (this.mp hb).1
      omega
  · exact b_big z
theorem i_vc_count {k : Nat} {u : SX} {v : SY} (I : i_Rel k u v) (hk : k + 4 ≤ 2048) (v1 : Int32) : wpX_count (fun r u' => wpY_count (fun r' v' => r' = r ∧ i_Rel (k + 4) u' v') v v1) u v1 := by
  refine tp_el (M := fun u v => wpX_count (fun r u' => wpY_count (fun r' v' => r' = r ∧ i_Rel (k + 4) u' v') v v1) u v1) ?_ I
  intro f_states f_rounds f_timeAt f_without f_pathLength a_issuerName a_issuerKey a_subjectName a_subjectKey a_goodFrom a_goodTo a_settings a_revokedFrom a_isHeld a_anchors a_stateOf a_openNames a_mayCome a_common a_before a_roundBegins a_path f_valid a_lengths a_steps a_found b_common a_list a_nexts a_names a_policyLeft a_room n hC
  have hn := hC.1
  have hgn : ∀ x, tp_gd n v1 a_goodFrom a_goodTo a_revokedFrom a_isHeld x = true → x < n := tp_gd_n
  have hg12 : ∀ x, tp_gd n v1 a_goodFrom a_goodTo a_revokedFrom a_isHeld x = true → x < 12 := fun x hx => Nat.lt_of_lt_of_le (hgn x hx) hn
  have hG : tp_Gd n (tp_gd n v1 a_goodFrom a_goodTo a_revokedFrom a_isHeld) (-1) v1 a_goodFrom a_goodTo a_revokedFrom a_isHeld := tp_gd_G hn
  have hL : ∀ c, c < n → ∃ lim, lim < 5 ∧ a_settings (5 * c + 1) = nI lim := fun c hc => (hC.2.2.1 c hc).1
  simp only [wpX_count]
  refine tp_xTime (fun ht => br_f (by decide) ?_) (fun ht => br_t rfl ?_)
  · refine tp_xFind (gd := tp_gd n v1 a_goodFrom a_goodTo a_revokedFrom a_isHeld) hn hgn hG hL ?_
    intro Q N so on mc co be rd rb hF T hl
    refine tp_xTset (gd := tp_gd n v1 a_goodFrom a_goodTo a_revokedFrom a_isHeld) hn hG hF T hl ?_
    intro r hr
    refine tp_xOnes ?_
    rw [tp_cnt_12 hn hr]
    simp only [wpY_count]
    refine tp_yTime (fun _ => br_t rfl (tp_yValid hn (fun set hset => ?_))) (fun z => absurd ht z)
    refine tp_ySearch (gd := tp_gd n v1 a_goodFrom a_goodTo a_revokedFrom a_isHeld) hn hgn (tp_gd_V hn hset) hC.2.1 hL ?_
    intro ln st fo cm li nx na pl ro A
    refine tp_yCount hn (bt r) (fun c hc => ?_) ⟨by trivial, tp_in hC⟩
    rw [tp_Acc_pos hg12 A (by omega), hr c (by omega)]
    exact ⟨fun z => ⟨hc, z⟩, fun z => z.2⟩
  · simp only [wpY_count]
    exact tp_yTime (fun z => absurd z ht) (fun _ => br_f (by decide) ⟨by trivial, tp_in hC⟩)
end
section
/-! keysOf, until, depending, narrow -/
noncomputable def tp_dc (p : Prop) : Bool := @decide p (Classical.propDecidable p)
theorem tp_dc_iff {p : Prop} : tp_dc p = true ↔ p := by
  unfold tp_dc
  exact @decide_eq_true_iff p (Classical.propDecidable p)
def tp_ks (p : Nat → Bool) (sK : Nat → Int32) : Nat → Int32
  | 0 => 0
  | k + 1 => if p k = true then tp_ks p sK k ||| ((1 : Int32) <<< (sK k &&& 31)) else tp_ks p sK k
theorem tp_ks_t {p : Nat → Bool} {sK : Nat → Int32} {k : Nat} (h : p k = true) : tp_ks p sK (k + 1) = tp_ks p sK k ||| ((1 : Int32) <<< (sK k &&& 31)) := if_pos h
theorem tp_ks_f {p : Nat → Bool} {sK : Nat → Int32} {k : Nat} (h : ¬ p k = true) : tp_ks p sK (k + 1) = tp_ks p sK k := if_neg h
section
variable {f_count f_states f_rounds f_timeAt f_without f_pathLength : Int32} {a_issuerName a_issuerKey a_subjectName a_subjectKey a_goodFrom a_goodTo a_settings a_revokedFrom a_isHeld a_anchors a_stateOf a_openNames a_mayCome a_common a_before a_roundBegins a_path : Nat → Int32}
variable {gd : Nat → Bool} {n N c : Nat} {Q : List (List Nat)}
theorem tp_xKeys40 {post : Int32 → SX → Prop} {x1 : Int32} {b : Nat} {p : Nat → Bool} (hn : n ≤ 12) (hG : tp_Gd n gd f_without f_timeAt a_goodFrom a_goodTo a_revokedFrom a_isHeld) (hF : tp_Fnd (gd, a_issuerName, a_issuerKey, a_subjectName, a_subjectKey, a_settings, a_anchors) n Q) (T : tp_Tab (gd, a_issuerName, a_issuerKey, a_subjectName, a_subjectKey, a_settings, a_anchors) Q a_stateOf a_openNames a_mayCome a_common a_before) (hl : Q.length = N + 1) (hb : b < 4)
    (hS : ∀ c, c < n → ∃ a, a < 16 ∧ a_settings (5 * c + 4) = nI a) (hp : ∀ c, c < n → (p c = true ↔ (a_subjectName c = x1 ∧ tp_Walk (gd, a_issuerName, a_issuerKey, a_subjectName, a_subjectKey, a_settings, a_anchors) (tp_finb (gd, a_issuerName, a_issuerKey, a_subjectName, a_subjectKey, a_settings, a_anchors) b) c)))
    (h : post (tp_ks p a_subjectKey n) (nI n, nI N, f_rounds, f_timeAt, f_without, f_pathLength, a_issuerName, a_issuerKey, a_subjectName, a_subjectKey, a_goodFrom, a_goodTo, a_settings, a_revokedFrom, a_isHeld, a_anchors, a_stateOf, a_openNames, a_mayCome, a_common, a_before, a_roundBegins, a_path)) :
    ∀ (f k : Nat), k ≤ n → n - k < f → wX_keysOf_40 post x1 (nI b) (nI n) (nI N) f_rounds f_timeAt f_without f_pathLength a_issuerName a_issuerKey a_subjectName a_subjectKey a_goodFrom a_goodTo a_settings a_revokedFrom a_isHeld a_anchors a_stateOf a_openNames a_mayCome a_common a_before a_roundBegins a_path f (tp_ks p a_subjectKey k) (nI k) := by
  intro f
  induction f with
  | zero => intro k _ hf; omega
  | succ f ih =>
    intro k hk hf
    have ek : (nI k).toNatClampNeg = k := nI_clamp (by omega)
    simp only [wX_keysOf_40, ek]
    by_cases e : k = n
    · subst e
      exact br_t (nI_le (Nat.le_refl _) (by omega)) h
    · have ik : vp_in (nI k) 12 := vp_in_nI (by omega) (by omega)
      have st := ih (k + 1) (by omega) (by omega)
      refine br_f (nI_ge (by omega) (by omega)) ⟨ik, br_c (fun a => ?_) (fun a => nm_r (nI_1 k) ?_)⟩
      · refine tp_xPol (gd := gd) hn hG hF T hl (by omega) (hS k (by omega)) (fun r hr => br_c (fun y => ⟨ik, ?_⟩) (fun y => nm_r (nI_1 k) ?_))
        · have hpk : p k = true := (hp k (by omega)).mpr ⟨a, (hr b (by omega)).mp ((tp_has (by omega)).mp y)⟩
          refine nm_r (tp_ks_t hpk).symm (nm_r (nI_1 k) st)
        · have hpk : ¬ p k = true := fun z => y ((tp_has (by omega)).mpr ((hr b (by omega)).mpr ((hp k (by omega)).mp z).2))
          rw [tp_ks_f hpk] at st
          exact st
      · have hpk : ¬ p k = true := fun z => a ((hp k (by omega)).mp z).1
        rw [tp_ks_f hpk] at st
        exact st
end
section
variable {f_made f_valid : Int32} {a_issuers a_subjects a_issuerKeys a_subjectKeys a_froms a_tos a_terms a_revoked a_held a_anchors a_lengths a_steps a_found a_common a_list a_nexts a_names a_policyLeft a_room : Nat → Int32}
variable {gd : Nat → Bool} {n c : Nat}
theorem tp_yKeys44 {post : Int32 → SY → Prop} {x1 : Int32} {b : Nat} {p : Nat → Bool} (hn : n ≤ 12) (hb : b < 4) (hp : ∀ c, c < n → (p c = true ↔ (a_subjects c = x1 ∧ bt (a_found c) b = true)))
    (h : post (tp_ks p a_subjectKeys n) (nI n, f_valid, a_issuers, a_subjects, a_issuerKeys, a_subjectKeys, a_froms, a_tos, a_terms, a_revoked, a_held, a_anchors, a_lengths, a_steps, a_found, a_common, a_list, a_nexts, a_names, a_policyLeft, a_room)) :
    ∀ (f k : Nat), k ≤ n → n - k < f → wY_keysOf_44 post x1 (nI b) (nI n) f_valid a_issuers a_subjects a_issuerKeys a_subjectKeys a_froms a_tos a_terms a_revoked a_held a_anchors a_lengths a_steps a_found a_common a_list a_nexts a_names a_policyLeft a_room f (tp_ks p a_subjectKeys k) (nI k) := by
  intro f
  induction f with
  | zero => intro k _ hf; omega
  | succ f ih =>
    intro k hk hf
    have ek : (nI k).toNatClampNeg = k := nI_clamp (by omega)
    simp only [wY_keysOf_44, ek]
    by_cases e : k = n
    · subst e
      exact br_t (nI_le (Nat.le_refl _) (by omega)) h
    · have ik : vp_in (nI k) 12 := vp_in_nI (by omega) (by omega)
      have st := ih (k + 1) (by omega) (by omega)
      refine br_f (nI_ge (by omega) (by omega)) ⟨ik, br_c (fun a => ⟨ik, ?_⟩) (fun a => nm_r (nI_1 k) ?_)⟩
      · refine tp_yHas (fun y => br_f (by decide) ⟨ik, ?_⟩) (fun y => br_t rfl (nm_r (nI_1 k) ?_))
        · have hpk : p k = true := (hp k (by omega)).mpr ⟨a, (tp_has (by omega)).mp y⟩
          refine nm_r (tp_ks_t hpk).symm (nm_r (nI_1 k) st)
        · have hpk : ¬ p k = true := fun z => y ((tp_has (by omega)).mpr ((hp k (by omega)).mp z).2)
          rw [tp_ks_f hpk] at st
          exact st
      · have hpk : ¬ p k = true := fun z => a ((hp k (by omega)).mp z).1
        rw [tp_ks_f hpk] at st
        exact st
end
theorem i_vc_keysOf {k : Nat} {u : SX} {v : SY} (I : i_Rel k u v) (hk : k + 4 ≤ 2048) (v1 : Int32) (v2 : Int32) (v3 : Int32) : wpX_keysOf (fun r u' => wpY_keysOf (fun r' v' => r' = r ∧ i_Rel (k + 4) u' v') v v1 v2 v3) u v1 v2 v3 := by
  refine tp_el (M := fun u v => wpX_keysOf (fun r u' => wpY_keysOf (fun r' v' => r' = r ∧ i_Rel (k + 4) u' v') v v1 v2 v3) u v1 v2 v3) ?_ I
  intro f_states f_rounds f_timeAt f_without f_pathLength a_issuerName a_issuerKey a_subjectName a_subjectKey a_goodFrom a_goodTo a_settings a_revokedFrom a_isHeld a_anchors a_stateOf a_openNames a_mayCome a_common a_before a_roundBegins a_path f_valid a_lengths a_steps a_found b_common a_list a_nexts a_names a_policyLeft a_room n hC
  have hn := hC.1
  have t2 : (8 : Int32) ≤ v1 ↔ 7 < v1 := tp_le_lt (by decide) v1
  by_cases hA : ¬ v1 < 0 ∧ ¬ 8 ≤ v1 ∧ tp_tm v2 ∧ ¬ v3 < 0 ∧ v3 ≤ 3
  · obtain ⟨a1, a2, a3, a4, a5⟩ := hA
    obtain ⟨b, hb, rfl⟩ := nI_of2 (x := v3) (M := 3) (n := 3) (by decide) a4 a5
    have hgn : ∀ x, tp_gd n v2 a_goodFrom a_goodTo a_revokedFrom a_isHeld x = true → x < n := tp_gd_n
    have hg12 : ∀ x, tp_gd n v2 a_goodFrom a_goodTo a_revokedFrom a_isHeld x = true → x < 12 := fun x hx => Nat.lt_of_lt_of_le (hgn x hx) hn
    have hG : tp_Gd n (tp_gd n v2 a_goodFrom a_goodTo a_revokedFrom a_isHeld) (-1) v2 a_goodFrom a_goodTo a_revokedFrom a_isHeld := tp_gd_G hn
    have hL : ∀ c, c < n → ∃ lim, lim < 5 ∧ a_settings (5 * c + 1) = nI lim := fun c hc => (hC.2.2.1 c hc).1
    simp only [wpX_keysOf]
    refine br_f a1 (br_f a2 (tp_xTime (fun _ => br_f (by decide) (br_f a4 (br_t a5 ?_))) (fun z => absurd a3 z)))
    refine tp_xFind (gd := tp_gd n v2 a_goodFrom a_goodTo a_revokedFrom a_isHeld) hn hgn hG hL ?_
    intro Q N so on mc co be rd rb hF T hl
    refine ⟨n + 1, tp_xKeys40 (gd := tp_gd n v2 a_goodFrom a_goodTo a_revokedFrom a_isHeld) (p := fun c => tp_dc (a_subjectName c = v1 ∧ tp_Walk (tp_gd n v2 a_goodFrom a_goodTo a_revokedFrom a_isHeld, a_issuerName, a_issuerKey, a_subjectName, a_subjectKey, a_settings, a_anchors) (tp_finb (tp_gd n v2 a_goodFrom a_goodTo a_revokedFrom a_isHeld, a_issuerName, a_issuerKey, a_subjectName, a_subjectKey, a_settings, a_anchors) b) c)) hn hG hF T hl (by omega) (fun c hc => (hC.2.2.1 c hc).2.1) (fun c hc => tp_dc_iff) ?_ (n + 1) 0 (Nat.zero_le _) (by omega)⟩
    simp only [wpY_keysOf]
    refine br_f a1 (br_f (fun z => a2 (t2.mpr z)) (tp_yTime (fun _ => br_t rfl (br_f a4 (br_t a5 (tp_yValid hn (fun set hset => ?_))))) (fun z => absurd a3 z)))
    refine tp_ySearch (gd := tp_gd n v2 a_goodFrom a_goodTo a_revokedFrom a_isHeld) hn hgn (tp_gd_V hn hset) hC.2.1 hL ?_
    intro ln st fo cm li nx na pl ro A
    refine ⟨n + 1, tp_yKeys44 hn (by omega) (fun c hc => ?_) ⟨rfl, tp_in hC⟩ (n + 1) 0 (Nat.zero_le _) (by omega)⟩
    show tp_dc _ = true ↔ _
    rw [tp_dc_iff, tp_Acc_found hg12 A (by omega) (by omega)]
  · have YB : wpY_keysOf (fun r' v' => r' = -1 ∧ i_Rel (k + 4) (nI n, f_states, f_rounds, f_timeAt, f_without, f_pathLength, a_issuerName, a_issuerKey, a_subjectName, a_subjectKey, a_goodFrom, a_goodTo, a_settings, a_revokedFrom, a_isHeld, a_anchors, a_stateOf, a_openNames, a_mayCome, a_common, a_before, a_roundBegins, a_path) v') (nI n, f_valid, a_issuerName, a_subjectName, a_issuerKey, a_subjectKey, a_goodFrom, a_goodTo, a_settings, a_revokedFrom, a_isHeld, a_anchors, a_lengths, a_steps, a_found, b_common, a_list, a_nexts, a_names, a_policyLeft, a_room) v1 v2 v3 := by
      simp only [wpY_keysOf]
      exact br_c (fun _ => ⟨by trivial, tp_in hC⟩) (fun a => br_c (fun _ => ⟨by trivial, tp_in hC⟩) (fun b => tp_yTime (fun d => br_t rfl (br_c (fun _ => ⟨by trivial, tp_in hC⟩) (fun e => br_f (fun z => hA ⟨a, fun y => b (t2.mp y), d, e, z⟩) ⟨by trivial, tp_in hC⟩))) (fun _ => br_f (by decide) ⟨by trivial, tp_in hC⟩)))
    simp only [wpX_keysOf]
    exact br_c (fun _ => YB) (fun a => br_c (fun _ => YB) (fun b => tp_xTime (fun d => br_f (by decide) (br_c (fun _ => YB) (fun e => br_f (fun z => hA ⟨a, b, d, e, z⟩) YB))) (fun _ => br_t rfl YB)))
/-! until -/
def tp_un (p : Nat → Bool) : Nat → Nat → Int32 → Int32
  | 0, _, last => last
  | d + 1, t, last => if p t = true then tp_un p d (t + 1) (nI t) else last
section
variable {a_issuerName a_issuerKey a_subjectName a_subjectKey a_goodFrom a_goodTo a_settings a_revokedFrom a_isHeld a_anchors : Nat → Int32}
variable {n c : Nat}
theorem tp_xUntil20 {post : Int32 → SX → Prop} {p : Nat → Bool} (hC : tp_Cn n a_issuerName a_issuerKey a_subjectName a_subjectKey a_goodFrom a_settings a_revokedFrom) (hc : c < n)
    (hp : ∀ t, p t = true ↔ tp_Walk (tp_gd n (nI t) a_goodFrom a_goodTo a_revokedFrom a_isHeld, a_issuerName, a_issuerKey, a_subjectName, a_subjectKey, a_settings, a_anchors) (tp_fin (tp_gd n (nI t) a_goodFrom a_goodTo a_revokedFrom a_isHeld, a_issuerName, a_issuerKey, a_subjectName, a_subjectKey, a_settings, a_anchors)) c) :
    ∀ (d f t : Nat) (last : Int32) (f_states f_rounds f_timeAt f_without f_pathLength : Int32) (a_stateOf a_openNames a_mayCome a_common a_before a_roundBegins a_path : Nat → Int32), t + d = 101 → d + 1 < f → (∀ (f_states f_rounds f_timeAt f_without f_pathLength : Int32) (a_stateOf a_openNames a_mayCome a_common a_before a_roundBegins a_path : Nat → Int32), post (tp_un p d t last) (nI n, f_states, f_rounds, f_timeAt, f_without, f_pathLength, a_issuerName, a_issuerKey, a_subjectName, a_subjectKey, a_goodFrom, a_goodTo, a_settings, a_revokedFrom, a_isHeld, a_anchors, a_stateOf, a_openNames, a_mayCome, a_common, a_before, a_roundBegins, a_path)) → wX_until_20 post (nI c) f last 1 (nI t) (nI n) f_states f_rounds f_timeAt f_without f_pathLength a_issuerName a_issuerKey a_subjectName a_subjectKey a_goodFrom a_goodTo a_settings a_revokedFrom a_isHeld a_anchors a_stateOf a_openNames a_mayCome a_common a_before a_roundBegins a_path := by
  have hn := hC.1
  have hL : ∀ c, c < n → ∃ lim, lim < 5 ∧ a_settings (5 * c + 1) = nI lim := fun c hc => (hC.2.2.1 c hc).1
  intro d
  induction d with
  | zero =>
    intro f t last f_states f_rounds f_timeAt f_without f_pathLength a_stateOf a_openNames a_mayCome a_common a_before a_roundBegins a_path htd hf h
    obtain ⟨f, rfl⟩ : ∃ f', f = f' + 1 := ⟨f - 1, by omega⟩
    simp only [wX_until_20]
    exact br_t (nI_lt (a := 100) (by omega) (by omega)) (h _ _ _ _ _ _ _ _ _ _ _ _)
  | succ d ih =>
    intro f t last f_states f_rounds f_timeAt f_without f_pathLength a_stateOf a_openNames a_mayCome a_common a_before a_roundBegins a_path htd hf h
    obtain ⟨f, rfl⟩ : ∃ f', f = f' + 1 := ⟨f - 1, by omega⟩
    have hgn : ∀ x, tp_gd n (nI t) a_goodFrom a_goodTo a_revokedFrom a_isHeld x = true → x < n := tp_gd_n
    have hG : tp_Gd n (tp_gd n (nI t) a_goodFrom a_goodTo a_revokedFrom a_isHeld) (-1) (nI t) a_goodFrom a_goodTo a_revokedFrom a_isHeld := tp_gd_G hn
    simp only [wX_until_20]
    refine br_f (nI_nlt (a := 100) (b := t) (by omega) (by omega)) (br_f (by decide) ?_)
    refine tp_xFind (gd := tp_gd n (nI t) a_goodFrom a_goodTo a_revokedFrom a_isHeld) hn hgn hG hL ?_
    intro Q N so on mc co be rd rb hF T hl
    refine tp_xFirstW (gd := tp_gd n (nI t) a_goodFrom a_goodTo a_revokedFrom a_isHeld) hn hG hF T hl hc (fun r hr w => br_f hr ?_) (fun w => br_t rfl ?_)
    · have hpt : p t = true := (hp t).mpr w
      have eu : tp_un p (d + 1) t last = tp_un p d (t + 1) (nI t) := if_pos hpt
      rw [eu] at h
      simp only [wX_until_54]
      exact br_f (by decide) (nm_r (nI_1 t) (ih f (t + 1) (nI t) _ _ _ _ _ _ _ _ _ _ _ _ (by omega) (by omega) h))
    · have hpt : ¬ p t = true := fun z => w ((hp t).mp z)
      have eu : tp_un p (d + 1) t last = last := if_neg hpt
      rw [eu] at h
      obtain ⟨f, rfl⟩ : ∃ f', f = f' + 1 := ⟨f - 1, by omega⟩
      simp only [wX_until_54]
      refine br_t (by trivial) (nm_e ?_)
      simp only [wX_until_20]
      exact br_c (fun _ => h _ _ _ _ _ _ _ _ _ _ _ _) (fun _ => br_t (by trivial) (h _ _ _ _ _ _ _ _ _ _ _ _))
end
section
variable {a_issuers a_subjects a_issuerKeys a_subjectKeys a_froms a_tos a_terms a_revoked a_held a_anchors : Nat → Int32}
variable {n c : Nat}
theorem tp_yUntil48 {post : Int32 → SY → Prop} {J20 : Int32 → Int32 → Int32 → Int32 → Int32 → (Nat → Int32) → (Nat → Int32) → (Nat → Int32) → (Nat → Int32) → (Nat → Int32) → (Nat → Int32) → (Nat → Int32) → (Nat → Int32) → (Nat → Int32) → (Nat → Int32) → (Nat → Int32) → (Nat → Int32) → (Nat → Int32) → (Nat → Int32) → (Nat → Int32) → (Nat → Int32) → (Nat → Int32) → (Nat → Int32) → (Nat → Int32) → Prop} {p : Nat → Bool} {t : Nat} {last x6 : Int32} {f_valid : Int32} {a_lengths a_steps a_found a_common a_list a_nexts a_names a_policyLeft a_room : Nat → Int32} (hn : n ≤ 12) (hc : c < n)
    (hp : ∀ t, p t = true ↔ tp_Walk (tp_gd n (nI t) a_froms a_tos a_revoked a_held, a_issuers, a_issuerKeys, a_subjects, a_subjectKeys, a_terms, a_anchors) (tp_fin (tp_gd n (nI t) a_froms a_tos a_revoked a_held, a_issuers, a_issuerKeys, a_subjects, a_subjectKeys, a_terms, a_anchors)) c)
    (A : tp_Acc (tp_gd n (nI t) a_froms a_tos a_revoked a_held, a_issuers, a_issuerKeys, a_subjects, a_subjectKeys, a_terms, a_anchors) (tp_Ev (tp_gd n (nI t) a_froms a_tos a_revoked a_held, a_issuers, a_issuerKeys, a_subjects, a_subjectKeys, a_terms, a_anchors)) a_lengths a_steps a_found a_common) (h : post last (nI n, f_valid, a_issuers, a_subjects, a_issuerKeys, a_subjectKeys, a_froms, a_tos, a_terms, a_revoked, a_held, a_anchors, a_lengths, a_steps, a_found, a_common, a_list, a_nexts, a_names, a_policyLeft, a_room) ∨ p t = true) (hJ : p t = true → J20 (nI t) x6 (nI (t + 1)) (nI n) f_valid a_issuers a_subjects a_issuerKeys a_subjectKeys a_froms a_tos a_terms a_revoked a_held a_anchors a_lengths a_steps a_found a_common a_list a_nexts a_names a_policyLeft a_room) :
    wY_until_48 post J20 (nI c) last (nI t) x6 (nI n) f_valid a_issuers a_subjects a_issuerKeys a_subjectKeys a_froms a_tos a_terms a_revoked a_held a_anchors a_lengths a_steps a_found a_common a_list a_nexts a_names a_policyLeft a_room := by
  have e : (nI c).toNatClampNeg = c := nI_clamp (by omega)
  have hi : vp_in (nI c) 12 := vp_in_nI (by omega) (by omega)
  have hg12 : ∀ x, tp_gd n (nI t) a_froms a_tos a_revoked a_held x = true → x < 12 := fun x hx => Nat.lt_of_lt_of_le (tp_gd_n x hx) hn
  simp only [wY_until_48, e]
  refine ⟨hi, br_c (fun y => ?_) (fun y => nm_r (nI_1 t) (hJ ?_))⟩
  · have hw := (tp_Acc_none hg12 A (by omega)).mp y
    rcases h with z | z
    · exact z
    · exact absurd ((hp t).mp z) hw
  · by_cases w : tp_Walk (tp_gd n (nI t) a_froms a_tos a_revoked a_held, a_issuers, a_issuerKeys, a_subjects, a_subjectKeys, a_terms, a_anchors) (tp_fin (tp_gd n (nI t) a_froms a_tos a_revoked a_held, a_issuers, a_issuerKeys, a_subjects, a_subjectKeys, a_terms, a_anchors)) c
    · exact (hp t).mpr w
    · exact absurd ((tp_Acc_none hg12 A (by omega)).mpr w) y
theorem tp_yUntil20 {post : Int32 → SY → Prop} {p : Nat → Bool} (hn : n ≤ 12) (hR : tp_Rg n a_issuers a_issuerKeys a_subjects a_subjectKeys) (hL : ∀ c, c < n → ∃ lim, lim < 5 ∧ a_terms (5 * c + 1) = nI lim) (hc : c < n)
    (hp : ∀ t, p t = true ↔ tp_Walk (tp_gd n (nI t) a_froms a_tos a_revoked a_held, a_issuers, a_issuerKeys, a_subjects, a_subjectKeys, a_terms, a_anchors) (tp_fin (tp_gd n (nI t) a_froms a_tos a_revoked a_held, a_issuers, a_issuerKeys, a_subjects, a_subjectKeys, a_terms, a_anchors)) c) :
    ∀ (d f t : Nat) (last x4 : Int32) (f_valid : Int32) (a_lengths a_steps a_found a_common a_list a_nexts a_names a_policyLeft a_room : Nat → Int32), t + d = 101 → d < f →
      (x4 = -1 ∨ ∃ gd : Nat → Bool, (∀ x, gd x = true → x < n) ∧ (∀ c, c < n → (bt x4 c = true ↔ gd c = true)) ∧ tp_Acc (gd, a_issuers, a_issuerKeys, a_subjects, a_subjectKeys, a_terms, a_anchors) (tp_Ev (gd, a_issuers, a_issuerKeys, a_subjects, a_subjectKeys, a_terms, a_anchors)) a_lengths a_steps a_found a_common) →
      (∀ (f_valid : Int32) (a_lengths a_steps a_found a_common a_list a_nexts a_names a_policyLeft a_room : Nat → Int32), post (tp_un p d t last) (nI n, f_valid, a_issuers, a_subjects, a_issuerKeys, a_subjectKeys, a_froms, a_tos, a_terms, a_revoked, a_held, a_anchors, a_lengths, a_steps, a_found, a_common, a_list, a_nexts, a_names, a_policyLeft, a_room)) → wY_until_20 post (nI c) f last x4 (nI t) (nI n) f_valid a_issuers a_subjects a_issuerKeys a_subjectKeys a_froms a_tos a_terms a_revoked a_held a_anchors a_lengths a_steps a_found a_common a_list a_nexts a_names a_policyLeft a_room := by
  intro d
  induction d with
  | zero =>
    intro f t last x4 f_valid a_lengths a_steps a_found a_common a_list a_nexts a_names a_policyLeft a_room htd hf hx h
    obtain ⟨f, rfl⟩ : ∃ f', f = f' + 1 := ⟨f - 1, by omega⟩
    simp only [wY_until_20]
    exact br_t (nI_le (a := 101) (by omega) (by omega)) (h _ _ _ _ _ _ _ _ _ _)
  | succ d ih =>
    intro f t last x4 f_valid a_lengths a_steps a_found a_common a_list a_nexts a_names a_policyLeft a_room htd hf hx h
    obtain ⟨f, rfl⟩ : ∃ f', f = f' + 1 := ⟨f - 1, by omega⟩
    have fin : ∀ (r : Int32) (f_valid : Int32) (a_lengths a_steps a_found a_common a_list a_nexts a_names a_policyLeft a_room : Nat → Int32), (∀ c, c < n → (bt r c = true ↔ tp_gd n (nI t) a_froms a_tos a_revoked a_held c = true)) → tp_Acc (tp_gd n (nI t) a_froms a_tos a_revoked a_held, a_issuers, a_issuerKeys, a_subjects, a_subjectKeys, a_terms, a_anchors) (tp_Ev (tp_gd n (nI t) a_froms a_tos a_revoked a_held, a_issuers, a_issuerKeys, a_subjects, a_subjectKeys, a_terms, a_anchors)) a_lengths a_steps a_found a_common →
        wY_until_48 post (wY_until_20 post (nI c) f) (nI c) last (nI t) r (nI n) f_valid a_issuers a_subjects a_issuerKeys a_subjectKeys a_froms a_tos a_terms a_revoked a_held a_anchors a_lengths a_steps a_found a_common a_list a_nexts a_names a_policyLeft a_room := by
      intro r f_valid a_lengths a_steps a_found a_common a_list a_nexts a_names a_policyLeft a_room hr A
      refine tp_yUntil48 (p := p) hn hc hp A ?_ ?_
      · by_cases hpt : p t = true
        · exact Or.inr hpt
        · have eu : tp_un p (d + 1) t last = last := if_neg hpt
          rw [eu] at h
          exact Or.inl (h _ _ _ _ _ _ _ _ _ _)
      · intro hpt
        have eu : tp_un p (d + 1) t last = tp_un p d (t + 1) (nI t) := if_pos hpt
        rw [eu] at h
        exact ih f (t + 1) (nI t) r _ _ _ _ _ _ _ _ _ _ (by omega) (by omega) (Or.inr ⟨_, tp_gd_n, hr, A⟩) h
    simp only [wY_until_20]
    refine br_f (nI_ge (b := 101) (by omega) (by omega)) (tp_yValid hn (fun r hr => br_c (fun y => ?_) (fun y => ?_)))
    · have hV := tp_gd_V hn hr
      rcases hx with z | ⟨gd, g1, g2, g3⟩
      · exfalso
        have h31 := hr 31 (by omega)
        rw [y, z, b_m1 31 (by omega)] at h31
        have := (h31.mp rfl).1
        omega
      · have eg : gd = tp_gd n (nI t) a_froms a_tos a_revoked a_held := by
          funext x
          apply Bool.eq_iff_iff.mpr
          rcases Nat.lt_or_ge x n with w | w
          · rw [← g2 x w, ← hV x w, y]
          · constructor
            · intro q
              have := g1 x q
              omega
            · intro q
              have := tp_gd_n x q
              omega
        rw [eg] at g3
        exact fin r _ _ _ _ _ _ _ _ _ _ hV g3
    · refine tp_ySearch (gd := tp_gd n (nI t) a_froms a_tos a_revoked a_held) hn tp_gd_n (tp_gd_V hn hr) hR hL ?_
      intro ln st fo cm li nx na pl ro A
      exact fin r _ _ _ _ _ _ _ _ _ _ (tp_gd_V hn hr) A
end
theorem i_vc_until {k : Nat} {u : SX} {v : SY} (I : i_Rel k u v) (hk : k + 4 ≤ 2048) (v1 : Int32) (v2 : Int32) : wpX_until (fun r u' => wpY_until (fun r' v' => r' = r ∧ i_Rel (k + 4) u' v') v v1 v2) u v1 v2 := by
  refine tp_el (M := fun u v => wpX_until (fun r u' => wpY_until (fun r' v' => r' = r ∧ i_Rel (k + 4) u' v') v v1 v2) u v1 v2) ?_ I
  intro f_states f_rounds f_timeAt f_without f_pathLength a_issuerName a_issuerKey a_subjectName a_subjectKey a_goodFrom a_goodTo a_settings a_revokedFrom a_isHeld a_anchors a_stateOf a_openNames a_mayCome a_common a_before a_roundBegins a_path f_valid a_lengths a_steps a_found b_common a_list a_nexts a_names a_policyLeft a_room n hC
  have hn := hC.1
  by_cases hA : tp_ce n v1 ∧ tp_tm v2
  · have hA' := hA
    obtain ⟨⟨c, hc, rfl⟩, ht⟩ := hA'
    obtain ⟨t, ht2, rfl⟩ := nI_of2 (x := v2) (M := 100) (n := 100) (by decide) ht.1 (Int32.not_lt.mp ht.2)
    have hL : ∀ c, c < n → ∃ lim, lim < 5 ∧ a_settings (5 * c + 1) = nI lim := fun c hc => (hC.2.2.1 c hc).1
    simp only [wpX_until]
    refine tp_xAsk hn (fun _ _ => br_f (by decide) ⟨103, ?_⟩) (fun z => absurd hA z)
    refine tp_xUntil20 (p := fun t => tp_dc (tp_Walk (tp_gd n (nI t) a_goodFrom a_goodTo a_revokedFrom a_isHeld, a_issuerName, a_issuerKey, a_subjectName, a_subjectKey, a_settings, a_anchors) (tp_fin (tp_gd n (nI t) a_goodFrom a_goodTo a_revokedFrom a_isHeld, a_issuerName, a_issuerKey, a_subjectName, a_subjectKey, a_settings, a_anchors)) c)) hC hc (fun t => tp_dc_iff) (101 - t) 103 t (-2) _ _ _ _ _ _ _ _ _ _ _ _ (by omega) (by omega) ?_
    intro f_states f_rounds f_timeAt f_without f_pathLength a_stateOf a_openNames a_mayCome a_common a_before a_roundBegins a_path
    simp only [wpY_until]
    refine tp_yAsk hn (fun _ _ => br_t rfl ⟨102, ?_⟩) (fun z => absurd hA z)
    refine tp_yUntil20 (p := fun t => tp_dc (tp_Walk (tp_gd n (nI t) a_goodFrom a_goodTo a_revokedFrom a_isHeld, a_issuerName, a_issuerKey, a_subjectName, a_subjectKey, a_settings, a_anchors) (tp_fin (tp_gd n (nI t) a_goodFrom a_goodTo a_revokedFrom a_isHeld, a_issuerName, a_issuerKey, a_subjectName, a_subjectKey, a_settings, a_anchors)) c)) hn hC.2.1 hL hc (fun t => tp_dc_iff) (101 - t) 102 t (-2) (-1) _ _ _ _ _ _ _ _ _ _ (by omega) (by omega) (Or.inl rfl) ?_
    intro f_valid a_lengths a_steps a_found b_common a_list a_nexts a_names a_policyLeft a_room
    exact ⟨rfl, tp_in hC⟩
  · simp only [wpX_until]
    refine tp_xAsk hn (fun a b => absurd ⟨a, b⟩ hA) (fun _ => br_t rfl ?_)
    simp only [wpY_until]
    exact tp_yAsk hn (fun a b => absurd ⟨a, b⟩ hA) (fun _ => br_f (by decide) ⟨by trivial, tp_in hC⟩)
end
section
/-! depending, narrow -/
theorem tp_wo_eq (gd : Nat → Bool) (iN iK sN sK se an : Nat → Int32) (x : Nat) : tp_wo (gd, iN, iK, sN, sK, se, an) x = (tp_gx gd x, iN, iK, sN, sK, se, an) := rfl
theorem i_vc_depending {k : Nat} {u : SX} {v : SY} (I : i_Rel k u v) (hk : k + 4 ≤ 2048) (v1 : Int32) (v2 : Int32) : wpX_depending (fun r u' => wpY_depending (fun r' v' => r' = r ∧ i_Rel (k + 4) u' v') v v1 v2) u v1 v2 := by
  refine tp_el (M := fun u v => wpX_depending (fun r u' => wpY_depending (fun r' v' => r' = r ∧ i_Rel (k + 4) u' v') v v1 v2) u v1 v2) ?_ I
  intro f_states f_rounds f_timeAt f_without f_pathLength a_issuerName a_issuerKey a_subjectName a_subjectKey a_goodFrom a_goodTo a_settings a_revokedFrom a_isHeld a_anchors a_stateOf a_openNames a_mayCome a_common a_before a_roundBegins a_path f_valid a_lengths a_steps a_found b_common a_list a_nexts a_names a_policyLeft a_room n hC
  have hn := hC.1
  by_cases hA : tp_ce n v1 ∧ tp_tm v2
  · have hA' := hA
    obtain ⟨⟨c, hc, rfl⟩, ht⟩ := hA'
    have hgn : ∀ x, tp_gd n v2 a_goodFrom a_goodTo a_revokedFrom a_isHeld x = true → x < n := tp_gd_n
    have hg12 : ∀ x, tp_gd n v2 a_goodFrom a_goodTo a_revokedFrom a_isHeld x = true → x < 12 := fun x hx => Nat.lt_of_lt_of_le (hgn x hx) hn
    have hG : tp_Gd n (tp_gd n v2 a_goodFrom a_goodTo a_revokedFrom a_isHeld) (-1) v2 a_goodFrom a_goodTo a_revokedFrom a_isHeld := tp_gd_G hn
    have hL : ∀ c, c < n → ∃ lim, lim < 5 ∧ a_settings (5 * c + 1) = nI lim := fun c hc => (hC.2.2.1 c hc).1
    have hgnx : ∀ x, tp_gx (tp_gd n v2 a_goodFrom a_goodTo a_revokedFrom a_isHeld) c x = true → x < n := tp_gx_n hgn
    have hg12x : ∀ x, tp_gx (tp_gd n v2 a_goodFrom a_goodTo a_revokedFrom a_isHeld) c x = true → x < 12 := fun x hx => Nat.lt_of_lt_of_le (hgnx x hx) hn
    have hGx : tp_Gd n (tp_gx (tp_gd n v2 a_goodFrom a_goodTo a_revokedFrom a_isHeld) c) (nI c) v2 a_goodFrom a_goodTo a_revokedFrom a_isHeld := tp_gd_Gx hn hc
    simp only [wpX_depending]
    refine tp_xAsk hn (fun _ _ => br_f (by decide) ?_) (fun z => absurd hA z)
    refine tp_xFind (gd := tp_gd n v2 a_goodFrom a_goodTo a_revokedFrom a_isHeld) hn hgn hG hL ?_
    intro Q N so on mc co be rd rb hF T hl
    refine tp_xTset (gd := tp_gd n v2 a_goodFrom a_goodTo a_revokedFrom a_isHeld) hn hG hF T hl ?_
    intro r hr
    refine tp_xFind (gd := tp_gx (tp_gd n v2 a_goodFrom a_goodTo a_revokedFrom a_isHeld) c) hn hgnx hGx hL ?_
    intro Q2 N2 so2 on2 mc2 co2 be2 rd2 rb2 hF2 T2 hl2
    refine tp_xTset (gd := tp_gx (tp_gd n v2 a_goodFrom a_goodTo a_revokedFrom a_isHeld) c) hn hGx hF2 T2 hl2 ?_
    intro r2 hr2
    refine tp_xOnes ?_
    have hsub : ∀ i, i < 12 → bt r2 i = true → bt r i = true := by
      intro i hi z
      obtain ⟨y1, y2⟩ := (hr2 i (by omega)).mp z
      exact (hr i (by omega)).mpr ⟨y1, tp_wo_walk (x := c) y2⟩
    have ebits : tp_cnt (bt (r &&& (r2 ^^^ (-1)))) 12 = tp_cnt (fun i => bt r i && !bt r2 i) 12 := by
      refine tp_cnt_eq 12 (fun i hi => ?_)
      rw [b_and, b_xor, b_m1 i (by omega)]
      cases bt r i <;> cases bt r2 i <;> rfl
    have hs := tp_cnt_sub (p := bt r) (q := bt r2) 12 hsub
    rw [tp_cnt_12 hn hr, tp_cnt_12 hn hr2] at hs
    have hle := tp_cnt_le (bt r) n
    have ecnt : tp_cnt (bt (r &&& (r2 ^^^ (-1)))) 12 = tp_cnt (bt r) n - tp_cnt (bt r2) n := by rw [ebits]; omega
    rw [ecnt, ← pk_sub (by omega)]
    simp only [wpY_depending]
    refine tp_yAsk hn (fun _ _ => br_t rfl (tp_yValid hn (fun set hset => ?_))) (fun z => absurd hA z)
    refine tp_ySearch (gd := tp_gd n v2 a_goodFrom a_goodTo a_revokedFrom a_isHeld) hn hgn (tp_gd_V hn hset) hC.2.1 hL ?_
    intro ln st fo cm li nx na pl ro A
    refine tp_yCount hn (bt r) (fun c hc => ?_) ?_
    · rw [tp_Acc_pos hg12 A (by omega), hr c (by omega)]
      exact ⟨fun z => ⟨hc, z⟩, fun z => z.2⟩
    refine tp_yValid hn (fun set2 hset2 => ?_)
    refine tp_ySearch (gd := tp_gx (tp_gd n v2 a_goodFrom a_goodTo a_revokedFrom a_isHeld) c) hn hgnx (tp_gd_Vx hn hc hset2) hC.2.1 hL ?_
    intro ln2 st2 fo2 cm2 li2 nx2 na2 pl2 ro2 A2
    refine tp_yCount hn (bt r2) (fun c hc => ?_) ⟨rfl, tp_in hC⟩
    rw [tp_Acc_pos hg12x A2 (by omega), hr2 c (by omega)]
    exact ⟨fun z => ⟨hc, z⟩, fun z => z.2⟩
  · simp only [wpX_depending]
    refine tp_xAsk hn (fun a b => absurd ⟨a, b⟩ hA) (fun _ => br_t rfl ?_)
    simp only [wpY_depending]
    exact tp_yAsk hn (fun a b => absurd ⟨a, b⟩ hA) (fun _ => br_f (by decide) ⟨by trivial, tp_in hC⟩)
def tp_nf (p : Nat → Bool) : Nat → Nat → Int32
  | 0, _ => -2
  | d + 1, x => if p x = true then nI x else tp_nf p d (x + 1)
section
variable {a_issuerName a_issuerKey a_subjectName a_subjectKey a_goodFrom a_goodTo a_settings a_revokedFrom a_isHeld a_anchors : Nat → Int32}
variable {n c : Nat}
theorem tp_xNarrow32 {post : Int32 → SX → Prop} {p : Nat → Bool} {ti : Int32} (hC : tp_Cn n a_issuerName a_issuerKey a_subjectName a_subjectKey a_goodFrom a_settings a_revokedFrom) (hc : c < n)
    (hp : ∀ x, p x = true ↔ (¬ x = c ∧ ¬ tp_Walk (tp_gx (tp_gd n ti a_goodFrom a_goodTo a_revokedFrom a_isHeld) x, a_issuerName, a_issuerKey, a_subjectName, a_subjectKey, a_settings, a_anchors) (tp_fin (tp_gx (tp_gd n ti a_goodFrom a_goodTo a_revokedFrom a_isHeld) x, a_issuerName, a_issuerKey, a_subjectName, a_subjectKey, a_settings, a_anchors)) c)) :
    ∀ (d f x : Nat) (f_states f_rounds f_timeAt f_without f_pathLength : Int32) (a_stateOf a_openNames a_mayCome a_common a_before a_roundBegins a_path : Nat → Int32), x + d = n → d < f → (∀ (f_states f_rounds f_timeAt f_without f_pathLength : Int32) (a_stateOf a_openNames a_mayCome a_common a_before a_roundBegins a_path : Nat → Int32), post (tp_nf p d x) (nI n, f_states, f_rounds, f_timeAt, f_without, f_pathLength, a_issuerName, a_issuerKey, a_subjectName, a_subjectKey, a_goodFrom, a_goodTo, a_settings, a_revokedFrom, a_isHeld, a_anchors, a_stateOf, a_openNames, a_mayCome, a_common, a_before, a_roundBegins, a_path)) → wX_narrow_32 post (nI c) ti f (nI x) (nI n) f_states f_rounds f_timeAt f_without f_pathLength a_issuerName a_issuerKey a_subjectName a_subjectKey a_goodFrom a_goodTo a_settings a_revokedFrom a_isHeld a_anchors a_stateOf a_openNames a_mayCome a_common a_before a_roundBegins a_path := by
  have hn := hC.1
  have hL : ∀ c, c < n → ∃ lim, lim < 5 ∧ a_settings (5 * c + 1) = nI lim := fun c hc => (hC.2.2.1 c hc).1
  intro d
  induction d with
  | zero =>
    intro f x f_states f_rounds f_timeAt f_without f_pathLength a_stateOf a_openNames a_mayCome a_common a_before a_roundBegins a_path hxd hf h
    obtain ⟨f, rfl⟩ : ∃ f', f = f' + 1 := ⟨f - 1, by omega⟩
    simp only [wX_narrow_32]
    exact br_t (nI_le (by omega) (by omega)) (h _ _ _ _ _ _ _ _ _ _ _ _)
  | succ d ih =>
    intro f x f_states f_rounds f_timeAt f_without f_pathLength a_stateOf a_openNames a_mayCome a_common a_before a_roundBegins a_path hxd hf h
    obtain ⟨f, rfl⟩ : ∃ f', f = f' + 1 := ⟨f - 1, by omega⟩
    have hgn : ∀ y, tp_gx (tp_gd n ti a_goodFrom a_goodTo a_revokedFrom a_isHeld) x y = true → y < n := tp_gx_n tp_gd_n
    have hG : tp_Gd n (tp_gx (tp_gd n ti a_goodFrom a_goodTo a_revokedFrom a_isHeld) x) (nI x) ti a_goodFrom a_goodTo a_revokedFrom a_isHeld := tp_gd_Gx hn (by omega)
    have hno : ¬ p x = true → tp_nf p (d + 1) x = tp_nf p d (x + 1) := fun z => if_neg z
    simp only [wX_narrow_32]
    refine br_f (nI_ge (by omega) (by omega)) (pk_eq x c (fun e => nm_r (nI_1 x) ?_) (fun e => ?_))
    · have hpx : ¬ p x = true := fun z => ((hp x).mp z).1 e
      rw [hno hpx] at h
      exact ih f (x + 1) _ _ _ _ _ _ _ _ _ _ _ _ (by omega) (by omega) h
    · refine tp_xFind (gd := tp_gx (tp_gd n ti a_goodFrom a_goodTo a_revokedFrom a_isHeld) x) hn hgn hG hL ?_
      intro Q N so on mc co be rd rb hF T hl
      refine tp_xFirstW (gd := tp_gx (tp_gd n ti a_goodFrom a_goodTo a_revokedFrom a_isHeld) x) hn hG hF T hl hc (fun r hr w => br_f hr (nm_r (nI_1 x) ?_)) (fun w => br_t rfl ?_)
      · have hpx : ¬ p x = true := fun z => ((hp x).mp z).2 w
        rw [hno hpx] at h
        exact ih f (x + 1) _ _ _ _ _ _ _ _ _ _ _ _ (by omega) (by omega) h
      · have hpx : p x = true := (hp x).mpr ⟨e, w⟩
        have eu : tp_nf p (d + 1) x = nI x := if_pos hpx
        rw [eu] at h
        exact h _ _ _ _ _ _ _ _ _ _ _ _
end
section
variable {f_made f_valid : Int32} {a_issuers a_subjects a_issuerKeys a_subjectKeys a_froms a_tos a_terms a_revoked a_held a_anchors a_lengths a_steps a_found a_common a_list a_nexts a_names a_policyLeft a_room : Nat → Int32}
variable {n c : Nat}
theorem tp_yNarrow22 {post : Int32 → SY → Prop} {p : Nat → Bool} (hn : n ≤ 12) (hc : c < n) (hp : ∀ x, x < n → (p x = true ↔ (¬ a_lengths c ≤ 0 ∧ ¬ x = c ∧ bt (a_common c) x = true))) :
    ∀ (d f x : Nat), x + d = n → d < f → post (tp_nf p d x) (nI n, f_valid, a_issuers, a_subjects, a_issuerKeys, a_subjectKeys, a_froms, a_tos, a_terms, a_revoked, a_held, a_anchors, a_lengths, a_steps, a_found, a_common, a_list, a_nexts, a_names, a_policyLeft, a_room) → wY_narrow_22 post (nI c) (nI n) f_valid a_issuers a_subjects a_issuerKeys a_subjectKeys a_froms a_tos a_terms a_revoked a_held a_anchors a_lengths a_steps a_found a_common a_list a_nexts a_names a_policyLeft a_room f (nI x) := by
  have e : (nI c).toNatClampNeg = c := nI_clamp (by omega)
  have hi : vp_in (nI c) 12 := vp_in_nI (by omega) (by omega)
  intro d
  induction d with
  | zero =>
    intro f x hxd hf h
    obtain ⟨f, rfl⟩ : ∃ f', f = f' + 1 := ⟨f - 1, by omega⟩
    simp only [wY_narrow_22, e]
    exact br_t (nI_le (by omega) (by omega)) h
  | succ d ih =>
    intro f x hxd hf h
    obtain ⟨f, rfl⟩ : ∃ f', f = f' + 1 := ⟨f - 1, by omega⟩
    have hno : ¬ p x = true → tp_nf p (d + 1) x = tp_nf p d (x + 1) := fun z => if_neg z
    simp only [wY_narrow_22, e]
    refine br_f (nI_ge (by omega) (by omega)) ⟨hi, br_c (fun y => nm_r (nI_1 x) ?_) (fun y => pk_eq x c (fun y2 => nm_r (nI_1 x) ?_) (fun y2 => ⟨hi, ?_⟩))⟩
    · have hpx : ¬ p x = true := fun z => ((hp x (by omega)).mp z).1 y
      rw [hno hpx] at h
      exact ih f (x + 1) (by omega) (by omega) h
    · have hpx : ¬ p x = true := fun z => ((hp x (by omega)).mp z).2.1 y2
      rw [hno hpx] at h
      exact ih f (x + 1) (by omega) (by omega) h
    · refine tp_yHas (fun w => br_f (by decide) ?_) (fun w => br_t rfl (nm_r (nI_1 x) ?_))
      · have hpx : p x = true := (hp x (by omega)).mpr ⟨y, y2, (tp_has (by omega)).mp w⟩
        have eu : tp_nf p (d + 1) x = nI x := if_pos hpx
        rw [eu] at h
        exact h
      · have hpx : ¬ p x = true := fun z => w ((tp_has (by omega)).mpr ((hp x (by omega)).mp z).2.2)
        rw [hno hpx] at h
        exact ih f (x + 1) (by omega) (by omega) h
end
theorem tp_nf_none {p : Nat → Bool} : ∀ (d x : Nat), (∀ y, x ≤ y → y < x + d → ¬ p y = true) → tp_nf p d x = -2 := by
  intro d
  induction d with
  | zero => intro x _; rfl
  | succ d ih =>
    intro x h
    have e : tp_nf p (d + 1) x = tp_nf p d (x + 1) := if_neg (h x (Nat.le_refl _) (by omega))
    rw [e]
    exact ih (x + 1) (fun y h1 h2 => h y (by omega) (by omega))
theorem i_vc_narrow {k : Nat} {u : SX} {v : SY} (I : i_Rel k u v) (hk : k + 4 ≤ 2048) (v1 : Int32) (v2 : Int32) : wpX_narrow (fun r u' => wpY_narrow (fun r' v' => r' = r ∧ i_Rel (k + 4) u' v') v v1 v2) u v1 v2 := by
  refine tp_el (M := fun u v => wpX_narrow (fun r u' => wpY_narrow (fun r' v' => r' = r ∧ i_Rel (k + 4) u' v') v v1 v2) u v1 v2) ?_ I
  intro f_states f_rounds f_timeAt f_without f_pathLength a_issuerName a_issuerKey a_subjectName a_subjectKey a_goodFrom a_goodTo a_settings a_revokedFrom a_isHeld a_anchors a_stateOf a_openNames a_mayCome a_common a_before a_roundBegins a_path f_valid a_lengths a_steps a_found b_common a_list a_nexts a_names a_policyLeft a_room n hC
  have hn := hC.1
  by_cases hA : tp_ce n v1 ∧ tp_tm v2
  · have hA' := hA
    obtain ⟨⟨c, hc, rfl⟩, ht⟩ := hA'
    have hgn : ∀ x, tp_gd n v2 a_goodFrom a_goodTo a_revokedFrom a_isHeld x = true → x < n := tp_gd_n
    have hg12 : ∀ x, tp_gd n v2 a_goodFrom a_goodTo a_revokedFrom a_isHeld x = true → x < 12 := fun x hx => Nat.lt_of_lt_of_le (hgn x hx) hn
    have hG : tp_Gd n (tp_gd n v2 a_goodFrom a_goodTo a_revokedFrom a_isHeld) (-1) v2 a_goodFrom a_goodTo a_revokedFrom a_isHeld := tp_gd_G hn
    have hL : ∀ c, c < n → ∃ lim, lim < 5 ∧ a_settings (5 * c + 1) = nI lim := fun c hc => (hC.2.2.1 c hc).1
    simp only [wpX_narrow]
    refine tp_xAsk hn (fun _ _ => br_f (by decide) ?_) (fun z => absurd hA z)
    refine tp_xFind (gd := tp_gd n v2 a_goodFrom a_goodTo a_revokedFrom a_isHeld) hn hgn hG hL ?_
    intro Q N so on mc co be rd rb hF T hl
    refine tp_xFirstW (gd := tp_gd n v2 a_goodFrom a_goodTo a_revokedFrom a_isHeld) hn hG hF T hl hc (fun r hr w => br_f hr ⟨n + 1, ?_⟩) (fun w => br_t rfl ?_)
    · refine tp_xNarrow32 (ti := v2) (p := fun x => tp_dc (¬ x = c ∧ ¬ tp_Walk (tp_gx (tp_gd n v2 a_goodFrom a_goodTo a_revokedFrom a_isHeld) x, a_issuerName, a_issuerKey, a_subjectName, a_subjectKey, a_settings, a_anchors) (tp_fin (tp_gx (tp_gd n v2 a_goodFrom a_goodTo a_revokedFrom a_isHeld) x, a_issuerName, a_issuerKey, a_subjectName, a_subjectKey, a_settings, a_anchors)) c)) hC hc (fun x => tp_dc_iff) n (n + 1) 0 _ _ _ _ _ _ _ _ _ _ _ _ (by omega) (by omega) ?_
      intro f_states f_rounds f_timeAt f_without f_pathLength a_stateOf a_openNames a_mayCome a_common a_before a_roundBegins a_path
      simp only [wpY_narrow]
      refine tp_yAsk hn (fun _ _ => br_t rfl (tp_yValid hn (fun set hset => ?_))) (fun z => absurd hA z)
      refine tp_ySearch (gd := tp_gd n v2 a_goodFrom a_goodTo a_revokedFrom a_isHeld) hn hgn (tp_gd_V hn hset) hC.2.1 hL ?_
      intro ln st fo cm li nx na pl ro A
      refine ⟨n + 1, tp_yNarrow22 hn hc (fun x hx => ?_) n (n + 1) 0 (by omega) (by omega) ⟨rfl, tp_in hC⟩⟩
      show tp_dc _ = true ↔ _
      rw [tp_dc_iff]
      constructor
      · rintro ⟨z1, z2⟩
        exact ⟨(tp_Acc_pos hg12 A (by omega)).mpr w, z1, (tp_Acc_common hg12 A (by omega) w (by omega) (fun y => z1 y.symm)).mpr z2⟩
      · rintro ⟨_, z1, z2⟩
        exact ⟨z1, (tp_Acc_common hg12 A (by omega) w (by omega) (fun y => z1 y.symm)).mp z2⟩
    · simp only [wpY_narrow]
      refine tp_yAsk hn (fun _ _ => br_t rfl (tp_yValid hn (fun set hset => ?_))) (fun z => absurd hA z)
      refine tp_ySearch (gd := tp_gd n v2 a_goodFrom a_goodTo a_revokedFrom a_isHeld) hn hgn (tp_gd_V hn hset) hC.2.1 hL ?_
      intro ln st fo cm li nx na pl ro A
      refine ⟨n + 1, tp_yNarrow22 (p := fun _ => false) hn hc (fun x hx => ?_) n (n + 1) 0 (by omega) (by omega) ⟨tp_nf_none n 0 (fun _ _ _ z => by cases z), tp_in hC⟩⟩
      constructor
      · intro z
        cases z
      · rintro ⟨z, _⟩
        exact absurd ((tp_Acc_pos hg12 A (by omega)).mp z) w
  · simp only [wpX_narrow]
    refine tp_xAsk hn (fun a b => absurd ⟨a, b⟩ hA) (fun _ => br_t rfl ?_)
    simp only [wpY_narrow]
    exact tp_yAsk hn (fun a b => absurd ⟨a, b⟩ hA) (fun _ => br_f (by decide) ⟨by trivial, tp_in hC⟩)
end
