section
/-! rows pasted out of the kit (starting texts): PURE-ROWS, BITS -/
theorem pk_us {f : Nat → Int32} {k : Nat} {x : Int32} : upd f k x k = x := if_pos rfl
theorem pk_un {f : Nat → Int32} {k j : Nat} {x : Int32} (h : j ≠ k) : upd f k x j = f j := if_neg h
theorem pk_sub {a b : Nat} (h : b ≤ a) : nI a - nI b = nI (a - b) := by
  obtain ⟨c, rfl⟩ : ∃ c, a = c + b := ⟨a - b, by omega⟩
  rw [← nI_add, Int32.add_sub_cancel, Nat.add_sub_cancel]
theorem pk_m1 (n : Nat) : nI (n + 1) + (-1) = nI n := by
  rw [← nI_1, Int32.add_assoc, show (1 : Int32) + (-1) = 0 from rfl, Int32.add_zero]
theorem pk_mul (a b : Nat) : nI a * nI b = nI (a * b) := (Int32.ofNat_mul a b).symm
theorem pk_sub_toInt {a b : Nat} (ha : a < 2 ^ 30) (hb : b < 2 ^ 30) : (nI a - nI b).toInt = (a : Int) - b := by
  rw [Int32.toInt_sub, nI_toInt (by omega), nI_toInt (by omega)]
  exact Int.bmod_eq_of_le (by omega) (by omega)
theorem pk_sneg {a b : Nat} (hb : b < 2 ^ 30) (h : a < b) : nI a - nI b < 0 := by
  rw [Int32.lt_iff_toInt_lt, pk_sub_toInt (by omega) hb, show (0 : Int32).toInt = 0 from by decide]
  omega
theorem pk_ix (x : Int32) {n : Nat} (hn : n < 2 ^ 31) : x < 0 ∨ nI n ≤ x ∨ ∃ j : Nat, j < n ∧ x = nI j := by
  by_cases h : x < 0
  · exact Or.inl h
  · obtain ⟨j, hj, rfl⟩ := nI_of h
    by_cases h2 : j < n
    · exact Or.inr (Or.inr ⟨j, h2, rfl⟩)
    · exact Or.inr (Or.inl (nI_le (by omega) hj))
theorem pk_le {x y : Int32} {A B : Prop} (a b : Nat) (f : a ≤ b → A) (g : b < a → B) (hx : x = nI a := by rfl) (hy : y = nI b := by rfl) (ha : a < 2 ^ 31 := by omega) (hb : b < 2 ^ 31 := by omega) : (x ≤ y → A) ∧ (¬ x ≤ y → B) := by
  subst hx hy
  rw [nI_leI ha hb]
  exact ⟨f, fun z => g (by omega)⟩
theorem pk_lt {x y : Int32} {A B : Prop} (a b : Nat) (f : a < b → A) (g : b ≤ a → B) (hx : x = nI a := by rfl) (hy : y = nI b := by rfl) (ha : a < 2 ^ 31 := by omega) (hb : b < 2 ^ 31 := by omega) : (x < y → A) ∧ (¬ x < y → B) := by
  subst hx hy
  rw [nI_ltI ha hb]
  exact ⟨f, fun z => g (by omega)⟩
theorem pk_eq {x y : Int32} {A B : Prop} (a b : Nat) (f : a = b → A) (g : a ≠ b → B) (hx : x = nI a := by rfl) (hy : y = nI b := by rfl) (ha : a < 2 ^ 31 := by omega) (hb : b < 2 ^ 31 := by omega) : (x = y → A) ∧ (¬ x = y → B) := by
  subst hx hy
  rw [nI_eq ha hb]
  exact ⟨f, g⟩
theorem pk_in {x : Int32} (n N : Nat) (h : n < N) (hx : x = nI n := by rfl) (hN : N < 2 ^ 31 := by omega) : vp_in x N := by
  subst hx
  exact vp_in_nI h hN
theorem pk_cl {x : Int32} (n : Nat) (hx : x = nI n := by rfl) (h : n < 2 ^ 31 := by omega) : x.toNatClampNeg = n := by
  subst hx
  exact nI_clamp h
theorem pk_tn {n : Nat} (h : n < 2 ^ 32) : (nI n).toBitVec.toNat = n := Nat.mod_eq_of_lt h
theorem pk_and (x : Int32) {m : Int32} (k : Nat) (hm : m.toBitVec.toNat = 2 ^ k - 1) : x &&& m = nI (x.toBitVec.toNat % 2 ^ k) := by
  apply Int32.toBitVec_inj.mp
  apply BitVec.eq_of_toNat_eq
  rw [Int32.toBitVec_and, BitVec.toNat_and, hm, Nat.and_two_pow_sub_one_eq_mod]
  show _ = (BitVec.ofNat 32 _).toNat
  rw [BitVec.toNat_ofNat]
  exact (Nat.mod_eq_of_lt (Nat.lt_of_le_of_lt (Nat.mod_le _ _) x.toBitVec.isLt)).symm
theorem pk_andN {n : Nat} (h : n < 2 ^ 32) {m : Int32} (k : Nat) (hm : m.toBitVec.toNat = 2 ^ k - 1) : nI n &&& m = nI (n % 2 ^ k) := by
  rw [pk_and _ k hm, pk_tn h]
theorem pk_andE (x : Int32) {m : Int32} (k : Nat) (hm : m.toBitVec.toNat = 2 ^ k - 1) : ∃ j : Nat, j < 2 ^ k ∧ x &&& m = nI j := ⟨_, Nat.mod_lt _ (Nat.two_pow_pos k), pk_and x k hm⟩
theorem pk_andIn (x : Int32) {m : Int32} (k : Nat) (hm : m.toBitVec.toNat = 2 ^ k - 1) (hk : k ≤ 30) : vp_in (x &&& m) (2 ^ k) := by
  obtain ⟨j, hj, e⟩ := pk_andE x k hm
  rw [e]
  exact vp_in_nI hj (Nat.lt_of_le_of_lt (Nat.pow_le_pow_right (by decide) hk) (by decide))
theorem pk_shl (a s : Int32) (k : Nat) (hs : (s.toBitVec.smod 32).toNat = k) : (a <<< s).toBitVec.toNat = a.toBitVec.toNat * 2 ^ k % 2 ^ 32 := by
  show (a.toBitVec <<< (s.toBitVec.smod 32).toNat).toNat = _
  rw [hs, BitVec.toNat_shiftLeft, Nat.shiftLeft_eq]
theorem pk_shlN {n : Nat} (s : Int32) (k : Nat) (hs : (s.toBitVec.smod 32).toNat = k) (h : n * 2 ^ k < 2 ^ 32) : nI n <<< s = nI (n * 2 ^ k) := by
  apply Int32.toBitVec_inj.mp
  apply BitVec.eq_of_toNat_eq
  have hn : n < 2 ^ 32 := Nat.lt_of_le_of_lt (Nat.le_mul_of_pos_right n (Nat.two_pow_pos k)) h
  rw [pk_shl _ _ k hs, pk_tn hn, pk_tn h, Nat.mod_eq_of_lt h]
theorem pk_shr (a s : Int32) (k : Nat) (hs : (s.toBitVec.smod 32).toNat = k) : (a >>> s).toInt = a.toInt >>> k := by
  show (a.toBitVec.sshiftRight (s.toBitVec.smod 32).toNat).toInt = _
  rw [hs, BitVec.toInt_sshiftRight]
  rfl
theorem pk_shrN {n : Nat} (h : n < 2 ^ 31) (s : Int32) (k : Nat) (hs : (s.toBitVec.smod 32).toNat = k) : nI n >>> s = nI (n / 2 ^ k) := by
  apply Int32.toInt_inj.mp
  have h2 : n / 2 ^ k ≤ n := Nat.div_le_self _ _
  rw [pk_shr _ _ k hs, nI_toInt h, nI_toInt (by omega), Int.shiftRight_eq_div_pow]
  rfl
def bt (x : Int32) (i : Nat) : Bool := x.toBitVec.getLsbD i
theorem b_ext {x y : Int32} (h : ∀ i, i < 32 → bt x i = bt y i) : x = y := Int32.toBitVec_inj.mp (BitVec.eq_of_getLsbD_eq (fun i hi => h i hi))
theorem b_or (x y : Int32) (i : Nat) : bt (x ||| y) i = (bt x i || bt y i) := by unfold bt; rw [Int32.toBitVec_or, BitVec.getLsbD_or]
theorem b_and (x y : Int32) (i : Nat) : bt (x &&& y) i = (bt x i && bt y i) := by unfold bt; rw [Int32.toBitVec_and, BitVec.getLsbD_and]
theorem b_xor (x y : Int32) (i : Nat) : bt (x ^^^ y) i = (bt x i ^^ bt y i) := by unfold bt; rw [Int32.toBitVec_xor, BitVec.getLsbD_xor]
theorem b_big {x : Int32} {i : Nat} (h : 32 ≤ i) : bt x i = false := BitVec.getLsbD_of_ge _ _ h
theorem b_255 (i : Nat) : bt 255 i = decide (i < 8) := by
  rcases Nat.lt_or_ge i 32 with h | h
  · exact (by decide +kernel : ∀ i, i < 32 → bt 255 i = decide (i < 8)) i h
  · rw [b_big h, decide_eq_false (by omega)]
theorem b_m1 : ∀ i, i < 32 → bt (-1) i = true := by decide +kernel
theorem b_0 (i : Nat) : bt 0 i = false := BitVec.getLsbD_zero
theorem s_l : ∀ n, n < 32 → ((nI n &&& 31).toBitVec.smod 32).toNat = n := by decide +kernel
theorem s_u : ∀ n, n < 32 → (((nI n).toUInt32 &&& Int32.toUInt32 31).toBitVec % 32).toNat = n := by decide +kernel
theorem b_shl (n : Nat) (hn : n < 32) (x : Int32) {i : Nat} (hi : i < 32) : bt (x <<< (nI n &&& 31)) i = (decide (n ≤ i) && bt x (i - n)) := by
  unfold bt
  rw [Int32.toBitVec_shiftLeft]
  show (x.toBitVec <<< ((nI n &&& 31).toBitVec.smod 32).toNat).getLsbD i = _
  rw [s_l n hn, BitVec.getLsbD_shiftLeft]
  rcases Nat.lt_or_ge i n with h | h
  · simp [h, Nat.not_le.mpr h]
  · simp [hi, h, Nat.not_lt.mpr h]
theorem b_ushr (n : Nat) (hn : n < 32) (x : Int32) (i : Nat) : bt ((x.toUInt32 >>> ((nI n).toUInt32 &&& Int32.toUInt32 31)).toInt32) i = bt x (n + i) := by
  show (x.toUInt32 >>> ((nI n).toUInt32 &&& Int32.toUInt32 31)).toBitVec.getLsbD i = x.toUInt32.toBitVec.getLsbD (n + i)
  rw [UInt32.toBitVec_shiftRight]
  show (x.toUInt32.toBitVec >>> (((nI n).toUInt32 &&& Int32.toUInt32 31).toBitVec % 32).toNat).getLsbD i = _
  rw [s_u n hn, BitVec.getLsbD_ushiftRight]
theorem b_sshr (n : Nat) (hn : n < 32) (x : Int32) {i : Nat} (hi : i < 32) : bt (x >>> (nI n &&& 31)) i = if n + i < 32 then bt x (n + i) else bt x 31 := by
  unfold bt
  rw [Int32.toBitVec_shiftRight]
  show (x.toBitVec.sshiftRight ((nI n &&& 31).toBitVec.smod 32).toNat).getLsbD i = _
  rw [s_l n hn, BitVec.getLsbD_sshiftRight, BitVec.msb_eq_getLsbD_last]
  simp [hi]
theorem b_shl8 (x : Int32) {i : Nat} (hi : i < 32) : bt (x <<< ((8 : Int32) &&& 31)) i = (decide (8 ≤ i) && bt x (i - 8)) := b_shl 8 (by omega) x hi
end
section
/-! plain laws: bits, the registers' cover, counts, values -/
theorem wu_b1 : ∀ i, i < 32 → bt 1 i = decide (i = 0) := by decide +kernel
theorem wu_sh1 (w : Nat) (hw : w < 32) (i : Nat) : bt ((1 : Int32) <<< (nI w &&& 31)) i = decide (i = w) := by
  rcases Nat.lt_or_ge i 32 with h | h
  · rw [b_shl w hw 1 h, wu_b1 _ (by omega)]
    by_cases e : i = w
    · subst e; simp
    · by_cases g : w ≤ i
      · have : ¬ i - w = 0 := by omega
        simp [e, this]
      · simp [e, g]
  · rw [b_big h, decide_eq_false (by omega)]
theorem wu_bit (m : Int32) (w : Nat) (hw : w < 32) : (m >>> (nI w &&& 31)) &&& 1 = if bt m w = true then 1 else 0 := by
  apply b_ext
  intro i hi
  rw [b_and, b_sshr w hw m hi, wu_b1 i hi]
  by_cases h : i = 0
  · subst h
    rw [Nat.add_zero, if_pos hw]
    cases bt m w <;> decide
  · rw [decide_eq_false h, Bool.and_false]
    cases bt m w
    · exact (b_0 i).symm
    · exact ((wu_b1 i hi).trans (decide_eq_false h)).symm
theorem wu_bit1 {m : Int32} {w : Nat} (hw : w < 32) (h : bt m w = true) : (m >>> (nI w &&& 31)) &&& 1 = 1 := by rw [wu_bit m w hw, if_pos h]
theorem wu_bit0 {m : Int32} {w : Nat} (hw : w < 32) (h : ¬ bt m w = true) : ¬ (m >>> (nI w &&& 31)) &&& 1 = 1 := by rw [wu_bit m w hw, if_neg h]; decide
theorem wu_andE {x y : Int32} (h : ¬ x &&& y = 0) : ∃ i, bt x i = true ∧ bt y i = true := by
  apply Classical.byContradiction
  intro hn
  apply h
  apply b_ext
  intro i _
  rw [b_and, b_0]
  cases hx : bt x i
  · rfl
  · cases hy : bt y i
    · rfl
    · exact absurd ⟨i, hx, hy⟩ hn
theorem wu_andI {x y : Int32} {i : Nat} (h1 : bt x i = true) (h2 : bt y i = true) : ¬ x &&& y = 0 := by
  intro h
  have e := b_and x y i
  rw [h, b_0, h1, h2] at e
  exact absurd e (by decide)
/-! the registers -/
def wu_way (x : Int32) : Int32 := if x = 4 then 2 else x
def wu_run (on pa : Nat → Int32) (w : Nat) : Prop := ¬ on w = 0 ∧ pa w = 0
def wu_rng (on fi la le ki : Nat → Int32) : Prop := ∀ w, w < 8 → ¬ on w = 0 → ∃ f l q : Nat, fi w = nI f ∧ le w = nI l ∧ la w = nI (f + l - 1) ∧ ki w = nI q ∧ 1 ≤ l ∧ l ≤ 16 ∧ f + l ≤ 40 ∧ 1 ≤ q ∧ q ≤ 4
def wu_cov (ki bS bZ bW bM : Nat → Int32) (b w a : Nat) : Prop := ∃ r p z : Nat, r < b ∧ bS r = nI p ∧ bZ r = nI z ∧ p + z ≤ 40 ∧ p ≤ a ∧ a < p + z ∧ bt (bM r) w = true ∧ ∀ i, bt (wu_way (ki w)) i = true → bt (bW r) i = true
def wu_regb (b : Nat) (R : Nat → Prop) (D : Nat → Nat → Prop) (ki : Nat → Int32) (st : Int32) (bS bZ bW bM : Nat → Int32) : Prop :=
  b ≤ 4 ∧ (∀ r, r < b → ∃ p z : Nat, bS r = nI p ∧ bZ r = nI z ∧ p + z ≤ 40) ∧ (∀ r w, r < b → bt (bM r) w = true → R w) ∧ (st = 0 → ∀ w a, D w a → wu_cov ki bS bZ bW bM b w a)
def wu_reg (R : Nat → Prop) (D : Nat → Nat → Prop) (ki : Nat → Int32) (bl st : Int32) (bS bZ bW bM : Nat → Int32) : Prop := ∃ b : Nat, bl = nI b ∧ wu_regb b R D ki st bS bZ bW bM
def wu_add (D : Nat → Nat → Prop) (w p z : Nat) : Nat → Nat → Prop := fun w' a => D w' a ∨ (w' = w ∧ p ≤ a ∧ a < p + z)
theorem wu_reg_mono {R : Nat → Prop} {D D' : Nat → Nat → Prop} {ki : Nat → Int32} {bl st : Int32} {bS bZ bW bM : Nat → Int32} (h : ∀ w a, D' w a → D w a) (H : wu_reg R D ki bl st bS bZ bW bM) : wu_reg R D' ki bl st bS bZ bW bM := by
  obtain ⟨b, e, h1, h2, h3, h4⟩ := H
  exact ⟨b, e, h1, h2, h3, fun z w a d => h4 z w a (h w a d)⟩
theorem wu_reg_full {b : Nat} {R : Nat → Prop} {D D' : Nat → Nat → Prop} {ki : Nat → Int32} {st : Int32} {bS bZ bW bM : Nat → Int32} (H : wu_regb b R D ki st bS bZ bW bM) : wu_regb b R D' ki 1 bS bZ bW bM := by
  obtain ⟨h1, h2, h3, h4⟩ := H
  exact ⟨h1, h2, h3, fun z => absurd z (by decide)⟩
theorem wu_reg_share {b : Nat} {R : Nat → Prop} {D : Nat → Nat → Prop} {ki : Nat → Int32} {st : Int32} {bS bZ bW bM : Nat → Int32} {r p z w : Nat} (H : wu_regb b R D ki st bS bZ bW bM) (hr : r < b) (hS : bS r = nI p) (hZ : bZ r = nI z) (hp : p + z ≤ 40) (hw : w < 8) (hR : R w) :
    wu_regb b R (wu_add D w p z) ki st bS bZ (upd bW r (bW r ||| wu_way (ki w))) (upd bM r (bM r ||| ((1 : Int32) <<< (nI w &&& 31)))) := by
  obtain ⟨h1, h2, h3, h4⟩ := H
  have up : ∀ q i, bt (bM q) i = true → bt (upd bM r (bM r ||| ((1 : Int32) <<< (nI w &&& 31))) q) i = true := by
    intro q i h
    by_cases e : q = r
    · subst e; rw [pk_us, b_or, h]; rfl
    · rw [pk_un e]; exact h
  have uw : ∀ q i, bt (bW q) i = true → bt (upd bW r (bW r ||| wu_way (ki w)) q) i = true := by
    intro q i h
    by_cases e : q = r
    · subst e; rw [pk_us, b_or, h]; rfl
    · rw [pk_un e]; exact h
  refine ⟨h1, h2, fun q x hq hx => ?_, fun hz x a hd => ?_⟩
  · by_cases e : q = r
    · subst e
      rw [pk_us, b_or, wu_sh1 w (by omega)] at hx
      by_cases ex : x = w
      · subst ex; exact hR
      · rw [decide_eq_false ex, Bool.or_false] at hx
        exact h3 _ _ hq hx
    · rw [pk_un e] at hx
      exact h3 _ _ hq hx
  · rcases hd with hd | ⟨rfl, h5, h6⟩
    · obtain ⟨q, p', z', g1, g2, g3, g4, g5, g6, g7, g8⟩ := h4 hz x a hd
      exact ⟨q, p', z', g1, g2, g3, g4, g5, g6, up _ _ g7, fun i hi => uw _ _ (g8 i hi)⟩
    · refine ⟨r, p, z, hr, hS, hZ, hp, h5, h6, ?_, fun i hi => ?_⟩
      · rw [pk_us, b_or, wu_sh1 x (by omega), decide_eq_true rfl, Bool.or_true]
      · rw [pk_us, b_or, hi, Bool.or_true]
theorem wu_reg_new {b : Nat} {R : Nat → Prop} {D : Nat → Nat → Prop} {ki : Nat → Int32} {st : Int32} {bS bZ bW bM : Nat → Int32} {p z w : Nat} (H : wu_regb b R D ki st bS bZ bW bM) (hb : b < 4) (hp : p + z ≤ 40) (hw : w < 8) (hR : R w) :
    wu_regb (b + 1) R (wu_add D w p z) ki st (upd bS b (nI p)) (upd bZ b (nI z)) (upd bW b (wu_way (ki w))) (upd bM b ((1 : Int32) <<< (nI w &&& 31))) := by
  obtain ⟨h1, h2, h3, h4⟩ := H
  refine ⟨by omega, fun q hq => ?_, fun q x hq hx => ?_, fun hz x a hd => ?_⟩
  · by_cases e : q = b
    · subst e; exact ⟨p, z, pk_us, pk_us, hp⟩
    · rw [pk_un e, pk_un e]; exact h2 q (by omega)
  · by_cases e : q = b
    · subst e
      rw [pk_us, wu_sh1 w (by omega)] at hx
      have ex : x = w := of_decide_eq_true hx
      subst ex; exact hR
    · rw [pk_un e] at hx
      exact h3 q x (by omega) hx
  · rcases hd with hd | ⟨rfl, h5, h6⟩
    · obtain ⟨q, p', z', g1, g2, g3, g4, g5, g6, g7, g8⟩ := h4 hz x a hd
      have e : q ≠ b := by omega
      exact ⟨q, p', z', by omega, by rw [pk_un e]; exact g2, by rw [pk_un e]; exact g3, g4, g5, g6, by rw [pk_un e]; exact g7, fun i hi => by rw [pk_un e]; exact g8 i hi⟩
    · refine ⟨b, p, z, by omega, pk_us, pk_us, hp, h5, h6, ?_, fun i hi => ?_⟩
      · rw [pk_us, wu_sh1 x (by omega), decide_eq_true rfl]
      · rw [pk_us]; exact hi
/-- what the registers must cover: the ranges of the running watches below n -/
def wu_dm (on pa fi la : Nat → Int32) (n w a : Nat) : Prop := w < n ∧ wu_run on pa w ∧ ∃ f e : Nat, fi w = nI f ∧ la w = nI e ∧ f < 40 ∧ e < 40 ∧ f ≤ a ∧ a ≤ e
def wu_ld (on pa fi la ki : Nat → Int32) (bl st ru : Int32) (bS bZ bW bM : Nat → Int32) : Prop := (∀ i, i < 8 → (bt ru i = true ↔ wu_run on pa i)) ∧ wu_reg (wu_run on pa) (wu_dm on pa fi la 8) ki bl st bS bZ bW bM
/-! counts of bits -/
def wu_cnt (m : Int32) : Nat → Nat
  | 0 => 0
  | n + 1 => wu_cnt m n + (if bt m n = true then 1 else 0)
theorem wu_cnt_c {m m' : Int32} : ∀ n, (∀ i, i < n → bt m i = bt m' i) → wu_cnt m n = wu_cnt m' n := by
  intro n
  induction n with
  | zero => intro _; rfl
  | succ n ih => intro h; rw [wu_cnt, wu_cnt, ih (fun i hi => h i (by omega)), h n (by omega)]
theorem wu_cnt_le (m : Int32) : ∀ n, wu_cnt m n ≤ n := by
  intro n
  induction n with
  | zero => exact Nat.le_refl 0
  | succ n ih => rw [wu_cnt]; split <;> omega
def wu_P (w : Nat) (m c : Int32) : Prop := (∀ i, w ≤ i → bt m i = false) ∧ c = nI (wu_cnt m w)
theorem wu_P0 : wu_P 0 0 0 := ⟨fun i _ => b_0 i, rfl⟩
theorem wu_Pm {w : Nat} {m c : Int32} (h : wu_P w m c) : wu_P (w + 1) m c := by
  refine ⟨fun i hi => h.1 i (by omega), ?_⟩
  rw [wu_cnt, h.1 w (Nat.le_refl w), if_neg (by decide), Nat.add_zero]
  exact h.2
theorem wu_Ph {w : Nat} {m c : Int32} (hw : w < 8) (h : wu_P w m c) : wu_P (w + 1) (m ||| ((1 : Int32) <<< (nI w &&& 31))) (c + 1) := by
  refine ⟨fun i hi => ?_, ?_⟩
  · rw [b_or, h.1 i (by omega), wu_sh1 w (by omega), decide_eq_false (by omega)]; rfl
  · rw [wu_cnt, b_or, wu_sh1 w (by omega), decide_eq_true rfl, Bool.or_true, if_pos rfl, h.2, nI_1]
    congr 2
    apply wu_cnt_c
    intro i hi
    rw [b_or, wu_sh1 w (by omega), decide_eq_false (by omega), Bool.or_false]
theorem wu_Pne {w : Nat} {m c : Int32} (hw : w < 8) : ¬ (m ||| ((1 : Int32) <<< (nI w &&& 31))) = 0 := by
  intro e
  have h := b_or m ((1 : Int32) <<< (nI w &&& 31)) w
  rw [e, b_0, wu_sh1 w (by omega), decide_eq_true rfl, Bool.or_true] at h
  exact absurd h (by decide)
/-! values out of bytes -/
def wu_vx (g : Nat → Int32) : Nat → Int32 → Int32
  | 0, x => x
  | n + 1, x => wu_vx g n ((x <<< ((8 : Int32) &&& 31)) ||| g n)
def wu_vy (g : Nat → Int32) : Nat → Int32
  | 0 => 0
  | n + 1 => wu_vy g n ||| (g n <<< ((8 * nI n) &&& 31))
theorem wu_vx_c {g g' : Nat → Int32} : ∀ n x, (∀ i, i < n → g i = g' i) → wu_vx g n x = wu_vx g' n x := by
  intro n
  induction n with
  | zero => intro x _; rfl
  | succ n ih => intro x h; rw [wu_vx, wu_vx, h n (by omega), ih _ (fun i hi => h i (by omega))]
theorem wu_8n (n : Nat) : 8 * nI n = nI (8 * n) := pk_mul 8 n
theorem wu_shb (n : Nat) (hn : n < 4) (x : Int32) {i : Nat} (hi : i < 32) : bt (x <<< ((8 * nI n) &&& 31)) i = (decide (8 * n ≤ i) && bt x (i - 8 * n)) := by
  rw [wu_8n]; exact b_shl (8 * n) (by omega) x hi
theorem wu_v1 (g : Nat → Int32) : wu_vx g 1 0 = wu_vy g 1 := by
  apply b_ext
  intro i hi
  simp only [wu_vx, wu_vy, b_or, b_shl8 _ hi, wu_shb 0 (by omega) _ hi, b_0]
  simp
theorem wu_v2 (g : Nat → Int32) : wu_vx g 2 0 = wu_vy g 2 := by
  apply b_ext
  intro i hi
  have h8 : i - 8 < 32 := by omega
  simp only [wu_vx, wu_vy, b_or, b_shl8 _ hi, b_shl8 _ h8, wu_shb 0 (by omega) _ hi, wu_shb 1 (by omega) _ hi, b_0]
  simp [Bool.or_comm]
theorem wu_v4 (g : Nat → Int32) : wu_vx g 4 0 = wu_vy g 4 := by
  apply b_ext
  intro i hi
  have h8 : i - 8 < 32 := by omega
  have h16 : i - 8 - 8 < 32 := by omega
  have h24 : i - 8 - 8 - 8 < 32 := by omega
  simp only [wu_vx, wu_vy, b_or, b_shl8 _ hi, b_shl8 _ h8, b_shl8 _ h16, b_shl8 _ h24, wu_shb 0 (by omega) _ hi, wu_shb 1 (by omega) _ hi, wu_shb 2 (by omega) _ hi, wu_shb 3 (by omega) _ hi, b_0]
  have e1 : decide (8 ≤ i - 8) = decide (8 * 2 ≤ i) := by rw [decide_eq_decide]; omega
  have e2 : decide (8 ≤ i - 8 - 8) = decide (8 * 3 ≤ i) := by rw [decide_eq_decide]; omega
  have e3 : i - 8 - 8 = i - 8 * 2 := by omega
  have e4 : i - 8 - 8 - 8 = i - 8 * 3 := by omega
  have e5 : decide (8 * 0 ≤ i) = true := decide_eq_true (by omega)
  have i1 : decide (8 * 3 ≤ i) = true → decide (8 * 2 ≤ i) = true := by intro h; exact decide_eq_true (by have := of_decide_eq_true h; omega)
  have i2 : decide (8 * 2 ≤ i) = true → decide (8 * 1 ≤ i) = true := by intro h; exact decide_eq_true (by have := of_decide_eq_true h; omega)
  rw [e1, e2, e4, e3, e5, show (8 : Nat) * 0 = 0 from rfl, Nat.sub_zero, show (8 : Nat) * 1 = 8 from rfl]
  rw [show (8 : Nat) * 1 = 8 from rfl] at i2
  revert i1 i2
  cases decide (8 * 3 ≤ i) <;> cases decide (8 * 2 ≤ i) <;> cases decide (8 ≤ i) <;> simp [Bool.or_assoc, Bool.or_comm, Bool.or_left_comm]
theorem wu_v {g : Nat → Int32} {s : Nat} (h : s = 1 ∨ s = 2 ∨ s = 4) : wu_vx g s 0 = wu_vy g s := by
  rcases h with rfl | rfl | rfl
  · exact wu_v1 g
  · exact wu_v2 g
  · exact wu_v4 g
/-! bytes written -/
def wu_by (v : Int32) (n : Nat) : Int32 := (v >>> ((8 * nI n) &&& 31)) &&& 255
theorem wu_byX (v : Int32) (n : Nat) (hn : n < 4) : ((v.toUInt32 >>> ((8 * nI n).toUInt32 &&& Int32.toUInt32 31)).toInt32) &&& 255 = wu_by v n := by
  unfold wu_by
  rw [wu_8n]
  apply b_ext
  intro i hi
  rw [b_and, b_and, b_255, b_ushr (8 * n) (by omega), b_sshr (8 * n) (by omega) v hi]
  by_cases h : i < 8
  · rw [if_pos (by omega)]
  · rw [decide_eq_false h, Bool.and_false, Bool.and_false]
def wu_wm (me : Nat → Int32) (a : Nat) (v : Int32) : Nat → Nat → Int32
  | 0 => me
  | n + 1 => upd (wu_wm me a v n) (a + n) (wu_by v n)
/-! copies -/
def wu_cp (g h : Nat → Int32) (a n : Nat) : Nat → Int32 := fun j => if j < n then g (a + j) else h j
theorem wu_cp_0 (g h : Nat → Int32) (a : Nat) : wu_cp g h a 0 = h := by funext j; exact if_neg (by omega)
theorem wu_cp_s (g h : Nat → Int32) (a n : Nat) : upd (wu_cp g h a n) n (g (a + n)) = wu_cp g h a (n + 1) := by
  funext j
  by_cases e : j = n
  · subst e; rw [pk_us]; exact (if_pos (by omega)).symm
  · rw [pk_un e]
    unfold wu_cp
    by_cases h : j < n
    · rw [if_pos h, if_pos (by omega)]
    · rw [if_neg h, if_neg (by omega)]
theorem wu_cp_i {g h : Nat → Int32} {a n j : Nat} (hj : j < n) : wu_cp g h a n j = g (a + j) := if_pos hj
def wu_sf (g : Nat → Int32) (j : Nat) : Nat → Int32 := fun i => if j < i ∧ i ≤ 7 then g (i - 1) else g i
theorem wu_sf_7 (g : Nat → Int32) : wu_sf g 7 = g := by funext i; exact if_neg (by omega)
theorem wu_sf_i {g : Nat → Int32} {j i : Nat} (h : i ≤ j) : wu_sf g j i = g i := if_neg (by omega)
theorem wu_sf_s (g : Nat → Int32) {j : Nat} (hj : j < 7) : upd (wu_sf g (j + 1)) (j + 1) (wu_sf g (j + 1) j) = wu_sf g j := by
  funext i
  rw [wu_sf_i (by omega)]
  by_cases e : i = j + 1
  · subst e; rw [pk_us]; exact (if_pos (by omega)).symm
  · rw [pk_un e]
    unfold wu_sf
    by_cases h : j + 1 < i ∧ i ≤ 7
    · rw [if_pos h, if_pos (by omega)]
    · rw [if_neg h, if_neg (by omega)]
/-! hits -/
def wu_T (f l a s : Nat) : Prop := ∃ i, i < s ∧ f ≤ a + i ∧ a + i < f + l
def wu_C (me od : Nat → Int32) (f l a s : Nat) : Prop := ∃ i, i < s ∧ f ≤ a + i ∧ a + i < f + l ∧ ¬ me (a + i) = od (a + i)
def wu_hk (q : Nat) (wr : Int32) (T C : Prop) : Prop := (q = 1 ∧ wr = 0 ∧ T) ∨ (q = 2 ∧ ¬ wr = 0 ∧ T) ∨ (q = 3 ∧ T) ∨ (q = 4 ∧ ¬ wr = 0 ∧ C)
theorem wu_T_iff {f l a s : Nat} (hl : 1 ≤ l) (hs : 1 ≤ s) : wu_T f l a s ↔ f < a + s ∧ a < f + l := by
  constructor
  · intro ⟨i, h1, h2, h3⟩; omega
  · intro ⟨h1, h2⟩
    rcases Nat.lt_or_ge f a with h | h
    · exact ⟨0, by omega, by omega, by omega⟩
    · exact ⟨f - a, by omega, by omega, by omega⟩
theorem wu_CT {me od : Nat → Int32} {f l a s : Nat} (h : wu_C me od f l a s) : wu_T f l a s := by
  obtain ⟨i, h1, h2, h3, _⟩ := h
  exact ⟨i, h1, h2, h3⟩
/-- a hit asks for a touch, and for a way that the watch's kind has -/
theorem wu_hk_way {q : Nat} {wr way : Int32} {me od : Nat → Int32} {f l a s : Nat} (hq : q ≤ 4) (hw : (wr = 0 ∧ way = 1) ∨ (¬ wr = 0 ∧ way = 2)) (h : wu_hk q wr (wu_T f l a s) (wu_C me od f l a s)) : wu_T f l a s ∧ ¬ wu_way (nI q) &&& way = 0 := by
  rcases h with ⟨rfl, h1, h2⟩ | ⟨rfl, h1, h2⟩ | ⟨rfl, h2⟩ | ⟨rfl, h1, h2⟩
  · rcases hw with ⟨_, rfl⟩ | ⟨h, _⟩
    · exact ⟨h2, by decide⟩
    · exact absurd h1 h
  · rcases hw with ⟨h, _⟩ | ⟨_, rfl⟩
    · exact absurd h h1
    · exact ⟨h2, by decide⟩
  · rcases hw with ⟨_, rfl⟩ | ⟨_, rfl⟩
    · exact ⟨h2, by decide⟩
    · exact ⟨h2, by decide⟩
  · rcases hw with ⟨h, _⟩ | ⟨_, rfl⟩
    · exact absurd h h1
    · exact ⟨wu_CT h2, by decide⟩
end
section
/-! the component's registers: occupy, split, loadRegisters -/
section
variable {bl st lo ru ac sc kp : Int32} {me on pa fi la ki sk hi bS bZ bW bM kM kA kN kB kF ob od le mM mA mN mB mF : Nat → Int32}
variable {R : Nat → Prop} {D : Nat → Nat → Prop} {w p z : Nat}
theorem wu_occ25 {b : Nat} (hw : w < 8) (hR : R w) (hp : p + z ≤ 40) (H : wu_regb b R D ki st bS bZ bW bM) : ∀ d r, r + d = b →
    ∃ (bl' st' : Int32) (bS' bZ' bW' bM' : Nat → Int32), wu_reg R (wu_add D w p z) ki bl' st' bS' bZ' bW' bM' ∧ ∀ post : SX → Prop, post (bl', st', lo, ru, ac, sc, me, on, pa, fi, la, ki, sk, hi, bS', bZ', bW', bM', kM, kA, kN, kB, kF, ob) →
      wX_occupy_25 post (nI p) (nI z) (nI w) (wu_way (ki w)) (nI b) st lo ru ac sc me on pa fi la ki sk hi bS bZ bW bM kM kA kN kB kF ob (d + 1) (nI r) := by
  have hb : b ≤ 4 := H.1
  intro d
  induction d with
  | zero =>
    intro r hr
    have hrb : r = b := by omega
    subst hrb
    have c1 : nI r ≤ nI r := nI_le (Nat.le_refl r) (by omega)
    by_cases h4 : r = 4
    · subst h4
      exact ⟨nI 4, 1, bS, bZ, bW, bM, ⟨4, rfl, wu_reg_full H⟩, fun post hp => br_t c1 (br_t rfl hp)⟩
    · have c2 : ¬ nI r = 4 := by
        intro e
        exact h4 ((nI_eq (a := r) (b := 4) (by omega) (by decide)).mp e)
      have hin : vp_in (nI r) 4 := vp_in_nI (by omega) (by decide)
      have hc : (nI r).toNatClampNeg = r := nI_clamp (by omega)
      refine ⟨nI (r + 1), st, upd bS r (nI p), upd bZ r (nI z), upd bW r (wu_way (ki w)), upd bM r ((1 : Int32) <<< (nI w &&& 31)), ⟨r + 1, rfl, wu_reg_new H (by omega) hp hw hR⟩, fun post hp => br_t c1 (br_f c2 ?_)⟩
      exact ⟨hin, nm_r (by rw [hc]) ⟨hin, nm_r (by rw [hc]) ⟨hin, nm_r (by rw [hc]) ⟨hin, nm_r (by rw [hc]) (nm_r (nI_1 r) hp)⟩⟩⟩⟩
  | succ d ih =>
    intro r hr
    have c1 : ¬ nI b ≤ nI r := nI_ge (by omega) (by omega)
    have hin : vp_in (nI r) 4 := vp_in_nI (by omega) (by decide)
    have hc : (nI r).toNatClampNeg = r := nI_clamp (by omega)
    by_cases e1 : bS r = nI p
    · have e1' : bS (nI r).toNatClampNeg = nI p := by rw [hc]; exact e1
      by_cases e2 : bZ r = nI z
      · have e2' : bZ (nI r).toNatClampNeg = nI z := by rw [hc]; exact e2
        refine ⟨nI b, st, bS, bZ, upd bW r (bW r ||| wu_way (ki w)), upd bM r (bM r ||| ((1 : Int32) <<< (nI w &&& 31))), ⟨b, rfl, wu_reg_share H (by omega) e1 e2 hp hw hR⟩, fun post hp => br_f c1 ⟨hin, br_t e1' ⟨hin, br_t e2' ?_⟩⟩⟩
        exact ⟨hin, hin, nm_r (by rw [hc]) ⟨hin, hin, nm_r (by rw [hc]) hp⟩⟩
      · have e2' : ¬ bZ (nI r).toNatClampNeg = nI z := by rw [hc]; exact e2
        obtain ⟨bl', st', bS', bZ', bW', bM', hreg, hpost⟩ := ih (r + 1) (by omega)
        exact ⟨bl', st', bS', bZ', bW', bM', hreg, fun post hp => br_f c1 ⟨hin, br_t e1' ⟨hin, br_f e2' (nm_r (nI_1 r) (hpost post hp))⟩⟩⟩
    · have e1' : ¬ bS (nI r).toNatClampNeg = nI p := by rw [hc]; exact e1
      obtain ⟨bl', st', bS', bZ', bW', bM', hreg, hpost⟩ := ih (r + 1) (by omega)
      exact ⟨bl', st', bS', bZ', bW', bM', hreg, fun post hp => br_f c1 ⟨hin, br_f e1' (nm_r (nI_1 r) (hpost post hp))⟩⟩
theorem wu_occ (hw : w < 8) (hR : R w) (hp : p + z ≤ 40) (H : wu_reg R D ki bl st bS bZ bW bM) :
    ∃ (bl' st' : Int32) (bS' bZ' bW' bM' : Nat → Int32), wu_reg R (wu_add D w p z) ki bl' st' bS' bZ' bW' bM' ∧ ∀ post : SX → Prop, post (bl', st', lo, ru, ac, sc, me, on, pa, fi, la, ki, sk, hi, bS', bZ', bW', bM', kM, kA, kN, kB, kF, ob) →
      wpX_occupy post (bl, st, lo, ru, ac, sc, me, on, pa, fi, la, ki, sk, hi, bS, bZ, bW, bM, kM, kA, kN, kB, kF, ob) (nI p) (nI z) (nI w) := by
  obtain ⟨b, rfl, H⟩ := H
  obtain ⟨bl', st', bS', bZ', bW', bM', hreg, hpost⟩ := wu_occ25 (lo := lo) (ru := ru) (ac := ac) (sc := sc) (me := me) (on := on) (pa := pa) (fi := fi) (la := la) (sk := sk) (hi := hi) (kM := kM) (kA := kA) (kN := kN) (kB := kB) (kF := kF) (ob := ob) hw hR hp H b 0 (by omega)
  refine ⟨bl', st', bS', bZ', bW', bM', hreg, fun post hp => ?_⟩
  have hc : (nI w).toNatClampNeg = w := nI_clamp (by omega)
  have hin : vp_in (nI w) 8 := vp_in_nI hw (by decide)
  have hq := hpost post hp
  unfold wpX_occupy
  by_cases e : ki w = 4
  · have e' : ki (nI w).toNatClampNeg = 4 := by rw [hc]; exact e
    rw [wu_way, if_pos e] at hq
    exact ⟨hin, br_t e' ⟨b + 1, hq⟩⟩
  · have e' : ¬ ki (nI w).toNatClampNeg = 4 := by rw [hc]; exact e
    rw [wu_way, if_neg e] at hq
    exact ⟨hin, br_f e' ⟨hin, nm_r (by rw [hc]) ⟨b + 1, hq⟩⟩⟩
/-- the block's size: any that lies within the range -/
theorem wu_size {e : Nat} {x3 : Int32} (hw : w < 8) (hla : la w = nI e) (he : e < 40) (hp : p ≤ e) : ∀ j, j ≤ 3 →
    ∃ z, 1 ≤ z ∧ p + z ≤ e + 1 ∧ ∀ post J, wX_split_68 post J (nI w) (nI p) x3 (nI z) bl st lo ru ac sc me on pa fi la ki sk hi bS bZ bW bM kM kA kN kB kF ob → wX_split_29 post J (nI w) (nI p) x3 bl st lo ru ac sc me on pa fi la ki sk hi bS bZ bW bM kM kA kN kB kF ob (j + 1) (nI (2 ^ j)) := by
  have hc : (nI w).toNatClampNeg = w := nI_clamp (by omega)
  have hin : vp_in (nI w) 8 := vp_in_nI hw (by decide)
  intro j
  induction j with
  | zero =>
    intro _
    exact ⟨1, by omega, by omega, fun post J h => br_t (nI_le (a := 1) (b := 1) (by omega) (by decide)) h⟩
  | succ j ih =>
    intro hj
    obtain ⟨z, h1, h2, h3⟩ := ih (by omega)
    have hpow : 2 ^ (j + 1) = 2 * 2 ^ j := by rw [Nat.pow_succ]; omega
    have hpos : 1 ≤ 2 ^ j := Nat.one_le_two_pow
    have hle : 2 ^ j ≤ 2 ^ 2 := Nat.pow_le_pow_right (by decide) (by omega)
    have c1 : ¬ nI (2 ^ (j + 1)) ≤ 1 := nI_ge (a := 1) (by omega) (by omega)
    have hsh : nI (2 ^ (j + 1)) >>> ((1 : Int32) &&& 31) = nI (2 ^ j) := by
      rw [pk_shrN (by omega) _ 1 (by decide)]
      exact congrArg nI (by omega)
    have hsum : nI p + nI (2 ^ (j + 1)) - 1 = nI (p + 2 ^ (j + 1) - 1) := by
      rw [nI_add]
      exact pk_sub (b := 1) (by omega)
    have hla' : la (nI w).toNatClampNeg = nI e := by rw [hc]; exact hla
    by_cases a1 : nI p &&& (nI (2 ^ (j + 1)) - 1) = 0
    · by_cases a2 : p + 2 ^ (j + 1) - 1 ≤ e
      · have a2' : nI p + nI (2 ^ (j + 1)) - 1 ≤ la (nI w).toNatClampNeg := by rw [hsum, hla']; exact nI_le a2 (by omega)
        exact ⟨2 ^ (j + 1), by omega, by omega, fun post J h => br_f c1 (br_t a1 ⟨hin, br_t a2' h⟩)⟩
      · have a2' : ¬ nI p + nI (2 ^ (j + 1)) - 1 ≤ la (nI w).toNatClampNeg := by rw [hsum, hla']; exact nI_ge (by omega) (by omega)
        exact ⟨z, h1, h2, fun post J h => br_f c1 (br_t a1 ⟨hin, br_f a2' (nm_r hsh (h3 post J h))⟩)⟩
    · exact ⟨z, h1, h2, fun post J h => br_f c1 (br_f a1 (nm_r hsh (h3 post J h)))⟩
theorem wu_add_add {f n : Nat} (h : f ≤ p) (hn : p + z = f + n) : ∀ x a, wu_add D w f n x a → wu_add (wu_add D w f (p - f)) w p z x a := by
  intro x a hd
  rcases hd with hd | ⟨e, h1, h2⟩
  · exact Or.inl (Or.inl hd)
  · rcases Nat.lt_or_ge a p with g | g
    · exact Or.inl (Or.inr ⟨e, h1, by omega⟩)
    · exact Or.inr ⟨e, g, by omega⟩
theorem wu_sp9 {f e : Nat} (hw : w < 8) (hR : R w) (hla : la w = nI e) (he : e < 40) (hfe : e < f + 16) : ∀ d k p, k + d = 16 → f + k ≤ p → p ≤ e + 1 →
    ∀ (bl st : Int32) (bS bZ bW bM : Nat → Int32), wu_reg R (wu_add D w f (p - f)) ki bl st bS bZ bW bM →
    ∃ (bl' st' : Int32) (bS' bZ' bW' bM' : Nat → Int32), wu_reg R (wu_add D w f (e + 1 - f)) ki bl' st' bS' bZ' bW' bM' ∧ ∀ post : SX → Prop, post (bl', st', lo, ru, ac, sc, me, on, pa, fi, la, ki, sk, hi, bS', bZ', bW', bM', kM, kA, kN, kB, kF, ob) →
      wX_split_9 post (nI w) (d + 1) (nI p) (nI k) bl st lo ru ac sc me on pa fi la ki sk hi bS bZ bW bM kM kA kN kB kF ob := by
  have hc : (nI w).toNatClampNeg = w := nI_clamp (by omega)
  have hin : vp_in (nI w) 8 := vp_in_nI hw (by decide)
  have hla' : la (nI w).toNatClampNeg = nI e := by rw [hc]; exact hla
  intro d
  induction d with
  | zero =>
    intro k p hk h1 h2 bl st bS bZ bW bM H
    have hp : p = e + 1 := by omega
    subst hp
    exact ⟨bl, st, bS, bZ, bW, bM, H, fun post hp => br_t (nI_le (a := 16) (by omega) (by omega)) hp⟩
  | succ d ih =>
    intro k p hk h1 h2 bl st bS bZ bW bM H
    have c1 : ¬ 16 ≤ nI k := nI_ge (b := 16) (by omega) (by decide)
    by_cases hp : e < p
    · have hp' : p = e + 1 := by omega
      subst hp'
      have c2 : la (nI w).toNatClampNeg < nI (e + 1) := by rw [hla']; exact nI_lt hp (by omega)
      exact ⟨bl, st, bS, bZ, bW, bM, H, fun post hp => br_f c1 ⟨hin, br_t c2 hp⟩⟩
    · have c2 : ¬ la (nI w).toNatClampNeg < nI p := by rw [hla']; exact nI_nlt (by omega) (by omega)
      obtain ⟨z, z1, z2, hz⟩ := wu_size (bl := bl) (st := st) (lo := lo) (ru := ru) (ac := ac) (sc := sc) (me := me) (on := on) (pa := pa) (fi := fi) (ki := ki) (sk := sk) (hi := hi) (bS := bS) (bZ := bZ) (bW := bW) (bM := bM) (kM := kM) (kA := kA) (kN := kN) (kB := kB) (kF := kF) (ob := ob) (x3 := nI k) hw hla he (p := p) (by omega) 3 (by omega)
      obtain ⟨bl1, st1, bS1, bZ1, bW1, bM1, hreg1, hpost1⟩ := wu_occ (lo := lo) (ru := ru) (ac := ac) (sc := sc) (me := me) (on := on) (pa := pa) (fi := fi) (la := la) (sk := sk) (hi := hi) (kM := kM) (kA := kA) (kN := kN) (kB := kB) (kF := kF) (ob := ob) (p := p) (z := z) hw hR (by omega) H
      obtain ⟨bl', st', bS', bZ', bW', bM', hreg, hpost⟩ := ih (k + 1) (p + z) (by omega) (by omega) (by omega) bl1 st1 bS1 bZ1 bW1 bM1 (wu_reg_mono (wu_add_add (by omega) (by omega)) hreg1)
      refine ⟨bl', st', bS', bZ', bW', bM', hreg, fun post hp => br_f c1 ⟨hin, br_f c2 ⟨4, ?_⟩⟩⟩
      refine hz post _ ?_
      unfold wX_split_68
      exact hpost1 _ (nm_r (nI_add p z) (nm_r (nI_1 k) (hpost post hp)))
theorem wu_split {f e : Nat} (hw : w < 8) (hR : R w) (hfi : fi w = nI f) (hla : la w = nI e) (he : e < 40) (hf : f ≤ e) (hfe : e < f + 16) (H : wu_reg R D ki bl st bS bZ bW bM) :
    ∃ (bl' st' : Int32) (bS' bZ' bW' bM' : Nat → Int32), wu_reg R (wu_add D w f (e + 1 - f)) ki bl' st' bS' bZ' bW' bM' ∧ ∀ post : SX → Prop, post (bl', st', lo, ru, ac, sc, me, on, pa, fi, la, ki, sk, hi, bS', bZ', bW', bM', kM, kA, kN, kB, kF, ob) →
      wpX_split post (bl, st, lo, ru, ac, sc, me, on, pa, fi, la, ki, sk, hi, bS, bZ, bW, bM, kM, kA, kN, kB, kF, ob) (nI w) := by
  have hc : (nI w).toNatClampNeg = w := nI_clamp (by omega)
  have hin : vp_in (nI w) 8 := vp_in_nI hw (by decide)
  obtain ⟨bl', st', bS', bZ', bW', bM', hreg, hpost⟩ := wu_sp9 (lo := lo) (ru := ru) (ac := ac) (sc := sc) (me := me) (on := on) (pa := pa) (fi := fi) (sk := sk) (hi := hi) (kM := kM) (kA := kA) (kN := kN) (kB := kB) (kF := kF) (ob := ob) hw hR hla he hfe 16 0 f rfl (by omega) (by omega) bl st bS bZ bW bM
    (wu_reg_mono (fun x a hd => hd.elim id (fun ⟨_, h1, h2⟩ => absurd h2 (by omega))) H)
  refine ⟨bl', st', bS', bZ', bW', bM', hreg, fun post hp => ?_⟩
  unfold wpX_split
  exact ⟨hin, nm_r (by rw [hc]; exact hfi) ⟨17, hpost post hp⟩⟩
theorem wu_lr22 (hr : wu_rng on fi la le ki) : ∀ d w, w + d = 8 → ∀ (bl st ru : Int32) (bS bZ bW bM : Nat → Int32), (∀ i, i < 8 → (bt ru i = true ↔ i < w ∧ wu_run on pa i)) → wu_reg (wu_run on pa) (wu_dm on pa fi la w) ki bl st bS bZ bW bM →
    ∃ (bl' st' ru' : Int32) (bS' bZ' bW' bM' : Nat → Int32), wu_ld on pa fi la ki bl' st' ru' bS' bZ' bW' bM' ∧ ∀ post : SX → Prop, post (bl', st', lo, ru', ac, sc, me, on, pa, fi, la, ki, sk, hi, bS', bZ', bW', bM', kM, kA, kN, kB, kF, ob) →
      wX_loadRegisters_22 post (d + 1) (nI w) bl st lo ru ac sc me on pa fi la ki sk hi bS bZ bW bM kM kA kN kB kF ob := by
  intro d
  induction d with
  | zero =>
    intro w hw bl st ru bS bZ bW bM hru H
    have e : w = 8 := by omega
    subst e
    exact ⟨bl, st, ru, bS, bZ, bW, bM, ⟨fun i hi => ⟨fun h => ((hru i hi).mp h).2, fun h => (hru i hi).mpr ⟨hi, h⟩⟩, H⟩, fun post hp => br_t (nI_le (a := 8) (b := 8) (by omega) (by decide)) hp⟩
  | succ d ih =>
    intro w hw bl st ru bS bZ bW bM hru H
    have hc : (nI w).toNatClampNeg = w := nI_clamp (by omega)
    have hin : vp_in (nI w) 8 := vp_in_nI (by omega) (by decide)
    have c1 : ¬ 8 ≤ nI w := nI_ge (b := 8) (by omega) (by decide)
    by_cases e1 : on w = 0
    · have e1' : on (nI w).toNatClampNeg = 0 := by rw [hc]; exact e1
      have hn : ¬ wu_run on pa w := fun h => h.1 e1
      obtain ⟨bl', st', ru', bS', bZ', bW', bM', hreg, hpost⟩ := ih (w + 1) (by omega) bl st ru bS bZ bW bM
        (fun i hi => by
          rw [hru i hi]
          constructor
          · intro ⟨h1, h2⟩; exact ⟨by omega, h2⟩
          · intro ⟨h1, h2⟩
            refine ⟨?_, h2⟩
            rcases Nat.lt_or_ge i w with g | g
            · exact g
            · exact absurd (show wu_run on pa w by rw [show w = i by omega]; exact h2) hn)
        (wu_reg_mono (fun x a hd => ⟨by
          rcases Nat.lt_or_ge x w with g | g
          · exact g
          · exact absurd (show wu_run on pa w by rw [show w = x by have := hd.1; omega]; exact hd.2.1) hn, hd.2⟩) H)
      exact ⟨bl', st', ru', bS', bZ', bW', bM', hreg, fun post hp => br_f c1 ⟨hin, br_t e1' (nm_r (nI_1 w) (hpost post hp))⟩⟩
    · have e1' : ¬ on (nI w).toNatClampNeg = 0 := by rw [hc]; exact e1
      by_cases e2 : pa w = 0
      · have e2' : pa (nI w).toNatClampNeg = 0 := by rw [hc]; exact e2
        have hrun : wu_run on pa w := ⟨e1, e2⟩
        obtain ⟨f, l, q, g1, g2, g3, g4, g5, g6, g7, g8, g9⟩ := hr w (by omega) e1
        obtain ⟨bl1, st1, bS1, bZ1, bW1, bM1, hreg1, hpost1⟩ := wu_split (lo := lo) (ru := ru ||| ((1 : Int32) <<< (nI w &&& 31))) (ac := ac) (sc := sc) (me := me) (on := on) (pa := pa) (sk := sk) (hi := hi) (kM := kM) (kA := kA) (kN := kN) (kB := kB) (kF := kF) (ob := ob) (w := w) (R := wu_run on pa) (by omega) hrun g1 g3 (by omega) (by omega) (by omega) H
        obtain ⟨bl', st', ru', bS', bZ', bW', bM', hreg, hpost⟩ := ih (w + 1) (by omega) bl1 st1 (ru ||| ((1 : Int32) <<< (nI w &&& 31))) bS1 bZ1 bW1 bM1
          (fun i hi => by
            rw [b_or, wu_sh1 w (by omega), Bool.or_eq_true, hru i hi, decide_eq_true_iff]
            constructor
            · intro h
              rcases h with ⟨h1, h2⟩ | h
              · exact ⟨by omega, h2⟩
              · subst h; exact ⟨by omega, hrun⟩
            · intro ⟨h1, h2⟩
              rcases Nat.lt_or_ge i w with g | g
              · exact Or.inl ⟨g, h2⟩
              · exact Or.inr (by omega))
          (wu_reg_mono (fun x a hd => by
            obtain ⟨h1, h2, f', e', k1, k2, k3, k4, k5, k6⟩ := hd
            rcases Nat.lt_or_ge x w with g | g
            · exact Or.inl ⟨g, h2, f', e', k1, k2, k3, k4, k5, k6⟩
            · have ex : x = w := by omega
              subst ex
              have ef : f' = f := (nI_eq (by omega) (by omega)).mp (k1.symm.trans g1)
              have ee : e' = f + l - 1 := (nI_eq (by omega) (by omega)).mp (k2.symm.trans g3)
              exact Or.inr ⟨rfl, by omega, by omega⟩) hreg1)
        exact ⟨bl', st', ru', bS', bZ', bW', bM', hreg, fun post hp => br_f c1 ⟨hin, br_f e1' ⟨hin, br_t e2' (nm_e (hpost1 _ (nm_r (nI_1 w) (hpost post hp))))⟩⟩⟩
      · have e2' : ¬ pa (nI w).toNatClampNeg = 0 := by rw [hc]; exact e2
        have hn : ¬ wu_run on pa w := fun h => e2 h.2
        obtain ⟨bl', st', ru', bS', bZ', bW', bM', hreg, hpost⟩ := ih (w + 1) (by omega) bl st ru bS bZ bW bM
          (fun i hi => by
            rw [hru i hi]
            constructor
            · intro ⟨h1, h2⟩; exact ⟨by omega, h2⟩
            · intro ⟨h1, h2⟩
              refine ⟨?_, h2⟩
              rcases Nat.lt_or_ge i w with g | g
              · exact g
              · exact absurd (show wu_run on pa w by rw [show w = i by omega]; exact h2) hn)
          (wu_reg_mono (fun x a hd => ⟨by
            rcases Nat.lt_or_ge x w with g | g
            · exact g
            · exact absurd (show wu_run on pa w by rw [show w = x by have := hd.1; omega]; exact hd.2.1) hn, hd.2⟩) H)
        exact ⟨bl', st', ru', bS', bZ', bW', bM', hreg, fun post hp => br_f c1 ⟨hin, br_f e1' ⟨hin, br_f e2' (nm_r (nI_1 w) (hpost post hp))⟩⟩⟩
theorem wu_lr (hr : wu_rng on fi la le ki) :
    ∃ (bl' st' ru' : Int32) (bS' bZ' bW' bM' : Nat → Int32), wu_ld on pa fi la ki bl' st' ru' bS' bZ' bW' bM' ∧ ∀ post : SX → Prop, post (bl', st', 1, ru', ac, sc, me, on, pa, fi, la, ki, sk, hi, bS', bZ', bW', bM', kM, kA, kN, kB, kF, ob) →
      wpX_loadRegisters post (bl, st, lo, ru, ac, sc, me, on, pa, fi, la, ki, sk, hi, bS, bZ, bW, bM, kM, kA, kN, kB, kF, ob) := by
  obtain ⟨bl', st', ru', bS', bZ', bW', bM', hreg, hpost⟩ := wu_lr22 (lo := 1) (ac := ac) (sc := sc) (me := me) (pa := pa) (sk := sk) (hi := hi) (kM := kM) (kA := kA) (kN := kN) (kB := kB) (kF := kF) (ob := ob) hr 8 0 rfl 0 0 0 bS bZ bW bM
    (fun i hi => by rw [b_0]; exact ⟨fun h => absurd h (by decide), fun h => absurd h.1 (by omega)⟩)
    ⟨0, rfl, by omega, fun r hr => absurd hr (by omega), fun r w hr => absurd hr (by omega), fun _ x a hd => absurd hd.1 (by omega)⟩
  refine ⟨bl', st', ru', bS', bZ', bW', bM', hreg, fun post hp => ?_⟩
  unfold wpX_loadRegisters
  exact ⟨9, hpost post hp⟩
end
end
section
/-! the component: suspects, isHit, valueAt, oldValue, remember -/
section
variable {bl st lo ru ac sc kp : Int32} {me on pa fi la ki sk hi bS bZ bW bM kM kA kN kB kF ob od le mM mA mN mB mF : Nat → Int32}
/-- register r meets the access -/
def wu_ov (bS bZ bW : Nat → Int32) (a s : Nat) (way : Int32) (r : Nat) : Prop := (∃ p z : Nat, bS r = nI p ∧ bZ r = nI z ∧ p + z ≤ 40 ∧ a < p + z ∧ p < a + s) ∧ ¬ bW r &&& way = 0
theorem wu_sus18 {R : Nat → Prop} {b a s : Nat} {way : Int32} (hb : b ≤ 4) (h2 : ∀ r, r < b → ∃ p z : Nat, bS r = nI p ∧ bZ r = nI z ∧ p + z ≤ 40) (h3 : ∀ r w, r < b → bt (bM r) w = true → R w) (ha : a + s ≤ 40) : ∀ d r m, r + d = b →
    (∀ w, bt m w = true → R w) → (∀ r', r' < r → wu_ov bS bZ bW a s way r' → ∀ w, bt (bM r') w = true → bt m w = true) →
    ∃ m', (∀ w, bt m' w = true → R w) ∧ (∀ r', r' < b → wu_ov bS bZ bW a s way r' → ∀ w, bt (bM r') w = true → bt m' w = true) ∧ ∀ post : Int32 → Prop, post m' →
      wX_suspects_18 post (nI a) (nI s) way (nI b) st lo ru ac sc me on pa fi la ki sk hi bS bZ bW bM kM kA kN kB kF ob (d + 1) m (nI r) := by
  intro d
  induction d with
  | zero =>
    intro r m hr hs hc
    have hrb : r = b := by omega
    subst hrb
    exact ⟨m, hs, hc, fun post hp => br_t (nI_le (Nat.le_refl r) (by omega)) hp⟩
  | succ d ih =>
    intro r m hr hs hc
    have c1 : ¬ nI b ≤ nI r := nI_ge (by omega) (by omega)
    have hin : vp_in (nI r) 4 := vp_in_nI (by omega) (by decide)
    have hcl : (nI r).toNatClampNeg = r := nI_clamp (by omega)
    obtain ⟨p, z, e1, e2, hpz⟩ := h2 r (by omega)
    have es : bS (nI r).toNatClampNeg + bZ (nI r).toNatClampNeg = nI (p + z) := by rw [hcl, e1, e2, nI_add]
    have eb : bS (nI r).toNatClampNeg = nI p := by rw [hcl, e1]
    have ea : nI a + nI s = nI (a + s) := nI_add a s
    have nov : ¬ wu_ov bS bZ bW a s way r → ∀ r', r' < r + 1 → wu_ov bS bZ bW a s way r' → ∀ w, bt (bM r') w = true → bt m w = true := by
      intro hn r' hr' ho
      rcases Nat.lt_or_ge r' r with g | g
      · exact hc r' g ho
      · exact absurd (show wu_ov bS bZ bW a s way r by rw [show r = r' by omega]; exact ho) hn
    have inj : ∀ p' z' : Nat, bS r = nI p' → bZ r = nI z' → p' + z' ≤ 40 → p' = p ∧ z' = z := by
      intro p' z' k1 k2 k3
      exact ⟨(nI_eq (by omega) (by omega)).mp (k1.symm.trans e1), (nI_eq (by omega) (by omega)).mp (k2.symm.trans e2)⟩
    by_cases o1 : p + z ≤ a
    · have o1' : bS (nI r).toNatClampNeg + bZ (nI r).toNatClampNeg ≤ nI a := by rw [es]; exact nI_le o1 (by omega)
      obtain ⟨m', k1, k2, k3⟩ := ih (r + 1) m (by omega) hs (nov (fun ⟨⟨p', z', j1, j2, j3, j4, j5⟩, _⟩ => by have := inj p' z' j1 j2 j3; omega))
      exact ⟨m', k1, k2, fun post hp => br_f c1 ⟨hin, hin, br_t o1' (And.intro (fun _ => nm_r (nI_1 r) (k3 post hp)) (fun h => absurd rfl h))⟩⟩
    · have o1' : ¬ bS (nI r).toNatClampNeg + bZ (nI r).toNatClampNeg ≤ nI a := by rw [es]; exact nI_ge (by omega) (by omega)
      by_cases o2 : a + s ≤ p
      · have o2' : nI a + nI s ≤ bS (nI r).toNatClampNeg := by rw [ea, eb]; exact nI_le o2 (by omega)
        obtain ⟨m', k1, k2, k3⟩ := ih (r + 1) m (by omega) hs (nov (fun ⟨⟨p', z', j1, j2, j3, j4, j5⟩, _⟩ => by have := inj p' z' j1 j2 j3; omega))
        exact ⟨m', k1, k2, fun post hp => br_f c1 ⟨hin, hin, br_f o1' ⟨hin, br_t o2' (And.intro (fun _ => nm_r (nI_1 r) (k3 post hp)) (fun h => absurd rfl h))⟩⟩⟩
      · have o2' : ¬ nI a + nI s ≤ bS (nI r).toNatClampNeg := by rw [ea, eb]; exact nI_ge (by omega) (by omega)
        have one : ¬ (1 : Int32) = 0 := by decide
        by_cases o3 : bW r &&& way = 0
        · have o3' : bW (nI r).toNatClampNeg &&& way = 0 := by rw [hcl]; exact o3
          obtain ⟨m', k1, k2, k3⟩ := ih (r + 1) m (by omega) hs (nov (fun h => h.2 o3))
          exact ⟨m', k1, k2, fun post hp => br_f c1 ⟨hin, hin, br_f o1' ⟨hin, br_f o2' (br_f one ⟨hin, br_t o3' (nm_r (nI_1 r) (k3 post hp))⟩)⟩⟩⟩
        · have o3' : ¬ bW (nI r).toNatClampNeg &&& way = 0 := by rw [hcl]; exact o3
          obtain ⟨m', k1, k2, k3⟩ := ih (r + 1) (m ||| bM r) (by omega)
            (fun w hw => by
              rw [b_or, Bool.or_eq_true] at hw
              rcases hw with hw | hw
              · exact hs w hw
              · exact h3 r w (by omega) hw)
            (fun r' hr' ho w hw => by
              rw [b_or, Bool.or_eq_true]
              rcases Nat.lt_or_ge r' r with g | g
              · exact Or.inl (hc r' g ho w hw)
              · have e : r' = r := by omega
                subst e; exact Or.inr hw)
          exact ⟨m', k1, k2, fun post hp => br_f c1 ⟨hin, hin, br_f o1' ⟨hin, br_f o2' (br_f one ⟨hin, br_f o3' ⟨hin, nm_r (by rw [hcl]) (nm_r (nI_1 r) (k3 post hp))⟩⟩)⟩⟩⟩
/-- the suspects: running watches alone, and all that the access may hit -/
theorem wu_sus {a s : Nat} {way : Int32} (H : wu_ld on pa fi la ki bl st ru bS bZ bW bM) (ha : a + s ≤ 40) :
    ∃ m, (∀ w, w < 8 → bt m w = true → wu_run on pa w) ∧ (∀ w f e : Nat, w < 8 → wu_run on pa w → fi w = nI f → la w = nI e → e < 40 → f ≤ e → f < a + s → a ≤ e → ¬ wu_way (ki w) &&& way = 0 → 1 ≤ s → bt m w = true) ∧ ∀ post : Int32 → Prop, post m →
      wpX_suspects post (bl, st, lo, ru, ac, sc, me, on, pa, fi, la, ki, sk, hi, bS, bZ, bW, bM, kM, kA, kN, kB, kF, ob) (nI a) (nI s) way := by
  obtain ⟨hru, b, rfl, hb, h2, h3, h4⟩ := H
  by_cases hst : st = 0
  · obtain ⟨m, k1, k2, k3⟩ := wu_sus18 (st := st) (lo := lo) (ru := ru) (ac := ac) (sc := sc) (me := me) (on := on) (pa := pa) (fi := fi) (la := la) (ki := ki) (sk := sk) (hi := hi) (bS := bS) (bZ := bZ) (bW := bW) (bM := bM) (kM := kM) (kA := kA) (kN := kN) (kB := kB) (kF := kF) (ob := ob) (R := wu_run on pa) (way := way) hb h2 h3 ha b 0 0 (by omega)
      (fun w hw => by rw [b_0] at hw; exact absurd hw (by decide)) (fun r' hr' => absurd hr' (by omega))
    refine ⟨m, fun w _ h => k1 w h, ?_, fun post hp => ?_⟩
    · intro w f e hw hrun hf hl he hfe g1 g2 g3 hs1
      have hx : ∃ x, f ≤ x ∧ x ≤ e ∧ a ≤ x ∧ x < a + s := by
        rcases Nat.lt_or_ge f a with h | h
        · exact ⟨a, by omega, by omega, by omega, by omega⟩
        · exact ⟨f, by omega, by omega, by omega, by omega⟩
      obtain ⟨x, x1, x2, x3, x4⟩ := hx
      obtain ⟨r, p, z, c1, c2, c3, c4, c5, c6, c7, c8⟩ := h4 hst w x ⟨hw, hrun, f, e, hf, hl, by omega, he, x1, x2⟩
      obtain ⟨i, i1, i2⟩ := wu_andE g3
      exact k2 r c1 ⟨⟨p, z, c2, c3, c4, by omega, by omega⟩, wu_andI (c8 i i1) i2⟩ w c7
    · unfold wpX_suspects
      exact br_t hst ⟨b + 1, k3 post hp⟩
  · refine ⟨ru, fun w hw h => (hru w hw).mp h, fun w f e hw hrun _ _ _ _ _ _ _ _ => (hru w hw).mpr hrun, fun post hp => ?_⟩
    unfold wpX_suspects
    exact br_f hst hp
/-! a watch's hit -/
theorem wu_xh72 {w a s f l : Nat} {post : Int32 → Prop} (hw : w < 8) (hfi : fi w = nI f) (hla : la w = nI (f + l - 1)) (hl : 1 ≤ l) (hfl : f + l ≤ 40) (ha : a + s ≤ 40) (hs : s ≤ 4) (hob : ∀ j, j < s → ob j = od (a + j))
    (h1 : wu_C me od f l a s → post 1) (h0 : ¬ wu_C me od f l a s → post 0) : ∀ d j, j + d = s → (∀ i, i < j → ¬ (f ≤ a + i ∧ a + i < f + l ∧ ¬ me (a + i) = od (a + i))) →
      wX_isHit_72 post (nI w) (nI a) (nI s) bl st lo ru ac sc me on pa fi la ki sk hi bS bZ bW bM kM kA kN kB kF ob (d + 1) (nI j) := by
  have hc : (nI w).toNatClampNeg = w := nI_clamp (by omega)
  have hin : vp_in (nI w) 8 := vp_in_nI hw (by decide)
  have hfi' : fi (nI w).toNatClampNeg = nI f := by rw [hc]; exact hfi
  have hla' : la (nI w).toNatClampNeg = nI (f + l - 1) := by rw [hc]; exact hla
  intro d
  induction d with
  | zero =>
    intro j hj hn
    have e : j = s := by omega
    subst e
    exact br_t (nI_le (Nat.le_refl j) (by omega)) (h0 (fun ⟨i, i1, i2⟩ => hn i i1 i2))
  | succ d ih =>
    intro j hj hn
    have c1 : ¬ nI s ≤ nI j := nI_ge (by omega) (by omega)
    have go : ¬ (f ≤ a + j ∧ a + j < f + l ∧ ¬ me (a + j) = od (a + j)) → wX_isHit_72 post (nI w) (nI a) (nI s) bl st lo ru ac sc me on pa fi la ki sk hi bS bZ bW bM kM kA kN kB kF ob (d + 1) (nI (j + 1)) := by
      intro h
      refine ih (j + 1) (by omega) (fun i hi => ?_)
      rcases Nat.lt_or_ge i j with g | g
      · exact hn i g
      · have e : i = j := by omega
        subst e; exact h
    refine br_f c1 (nm_r (nI_add a j) ⟨hin, ?_⟩)
    by_cases o1 : a + j < f
    · have o1' : nI (a + j) < fi (nI w).toNatClampNeg := by rw [hfi']; exact nI_lt o1 (by omega)
      exact br_t o1' (nm_r (nI_1 j) (go (by omega)))
    · have o1' : ¬ nI (a + j) < fi (nI w).toNatClampNeg := by rw [hfi']; exact nI_nlt (by omega) (by omega)
      refine br_f o1' ⟨hin, ?_⟩
      by_cases o2 : f + l - 1 < a + j
      · have o2' : la (nI w).toNatClampNeg < nI (a + j) := by rw [hla']; exact nI_lt o2 (by omega)
        exact br_t o2' (nm_r (nI_1 j) (go (by omega)))
      · have o2' : ¬ la (nI w).toNatClampNeg < nI (a + j) := by rw [hla']; exact nI_nlt (by omega) (by omega)
        have ha' : (nI (a + j)).toNatClampNeg = a + j := nI_clamp (by omega)
        have hj' : (nI j).toNatClampNeg = j := nI_clamp (by omega)
        refine br_f o2' ⟨vp_in_nI (by omega) (by decide), vp_in_nI (by omega) (by decide), ?_⟩
        by_cases o3 : me (a + j) = od (a + j)
        · have o3' : me (nI (a + j)).toNatClampNeg = ob (nI j).toNatClampNeg := by rw [ha', hj', hob j (by omega)]; exact o3
          exact br_t o3' (nm_r (nI_1 j) (go (fun h => h.2.2 o3)))
        · have o3' : ¬ me (nI (a + j)).toNatClampNeg = ob (nI j).toNatClampNeg := by rw [ha', hj', hob j (by omega)]; exact o3
          exact br_f o3' (h1 ⟨j, by omega, by omega, by omega, o3⟩)
theorem wu_kw {q : Nat} (h1 : 1 ≤ q) (h4 : q ≤ 3) : (nI q &&& 1 = 0 ↔ q = 2) ∧ (nI q &&& 2 = 0 ↔ q = 1) := by
  have h : q = 1 ∨ q = 2 ∨ q = 3 := by omega
  rcases h with rfl | rfl | rfl
  · exact ⟨by decide, by decide⟩
  · exact ⟨by decide, by decide⟩
  · exact ⟨by decide, by decide⟩
theorem wu_xhit {w a s f l q : Nat} {wr : Int32} {post : Int32 → Prop} (hw : w < 8) (hfi : fi w = nI f) (hla : la w = nI (f + l - 1)) (hki : ki w = nI q) (hl : 1 ≤ l) (hfl : f + l ≤ 40) (hq1 : 1 ≤ q) (hq4 : q ≤ 4) (ha : a + s ≤ 40) (hs1 : 1 ≤ s) (hs : s ≤ 4) (hob : ∀ j, j < s → ob j = od (a + j))
    (h1 : wu_hk q wr (wu_T f l a s) (wu_C me od f l a s) → post 1) (h0 : ¬ wu_hk q wr (wu_T f l a s) (wu_C me od f l a s) → post 0) : wpX_isHit post (bl, st, lo, ru, ac, sc, me, on, pa, fi, la, ki, sk, hi, bS, bZ, bW, bM, kM, kA, kN, kB, kF, ob) (nI w) (nI a) (nI s) wr := by
  have hc : (nI w).toNatClampNeg = w := nI_clamp (by omega)
  have hin : vp_in (nI w) 8 := vp_in_nI hw (by decide)
  have hfi' : fi (nI w).toNatClampNeg = nI f := by rw [hc]; exact hfi
  have hla' : la (nI w).toNatClampNeg = nI (f + l - 1) := by rw [hc]; exact hla
  have hki' : ki (nI w).toNatClampNeg = nI q := by rw [hc]; exact hki
  have ea : nI a + nI s = nI (a + s) := nI_add a s
  have hT := wu_T_iff (f := f) (l := l) (a := a) (s := s) hl hs1
  have key : ∀ z0 : Int32, ((wr = 0 ∧ z0 = 1) ∨ (¬ wr = 0 ∧ z0 = 2)) → wX_isHit_10 post (nI w) (nI a) (nI s) wr z0 bl st lo ru ac sc me on pa fi la ki sk hi bS bZ bW bM kM kA kN kB kF ob := by
    intro z0 hz
    refine And.intro hin ?_
    by_cases e4 : q = 4
    · subst e4
      refine br_t hki' ?_
      by_cases ew : wr = 0
      · refine br_t ew (h0 ?_)
        intro h
        rcases h with ⟨h, _⟩ | ⟨h, _⟩ | ⟨h, _⟩ | ⟨_, h, _⟩
        · omega
        · omega
        · omega
        · exact h ew
      · refine br_f ew ⟨s + 1, ?_⟩
        refine wu_xh72 (od := od) hw hfi hla hl hfl ha hs hob (fun h => h1 (Or.inr (Or.inr (Or.inr ⟨rfl, ew, h⟩)))) (fun h => h0 ?_) s 0 (by omega) (fun i hi => absurd hi (by omega))
        intro g
        rcases g with ⟨g, _⟩ | ⟨g, _⟩ | ⟨g, _⟩ | ⟨_, _, g⟩
        · omega
        · omega
        · omega
        · exact h g
    · have e4' : ¬ ki (nI w).toNatClampNeg = 4 := by
        rw [hki']
        intro e
        exact e4 ((nI_eq (a := q) (b := 4) (by omega) (by decide)).mp e)
      have kw := wu_kw hq1 (by omega : q ≤ 3)
      have hkT : wu_hk q wr (wu_T f l a s) (wu_C me od f l a s) ↔ ¬ nI q &&& z0 = 0 ∧ f < a + s ∧ a < f + l := by
        rw [← hT]
        constructor
        · intro h
          rcases h with ⟨g1, g2, g3⟩ | ⟨g1, g2, g3⟩ | ⟨g1, g3⟩ | ⟨g1, _⟩
          · refine ⟨?_, g3⟩
            rcases hz with ⟨_, rfl⟩ | ⟨k, _⟩
            · rw [kw.1]; omega
            · exact absurd g2 k
          · refine ⟨?_, g3⟩
            rcases hz with ⟨k, _⟩ | ⟨_, rfl⟩
            · exact absurd k g2
            · rw [kw.2]; omega
          · refine ⟨?_, g3⟩
            rcases hz with ⟨_, rfl⟩ | ⟨_, rfl⟩
            · rw [kw.1]; omega
            · rw [kw.2]; omega
          · exact absurd g1 e4
        · intro ⟨g1, g2⟩
          have hq : q = 1 ∨ q = 2 ∨ q = 3 := by omega
          rcases hz with ⟨k, rfl⟩ | ⟨k, rfl⟩
          · rw [kw.1] at g1
            rcases hq with e | e | e
            · exact Or.inl ⟨e, k, g2⟩
            · exact absurd e g1
            · exact Or.inr (Or.inr (Or.inl ⟨e, g2⟩))
          · rw [kw.2] at g1
            rcases hq with e | e | e
            · exact absurd e g1
            · exact Or.inr (Or.inl ⟨e, k, g2⟩)
            · exact Or.inr (Or.inr (Or.inl ⟨e, g2⟩))
      rw [hkT] at h1 h0
      refine br_f e4' ⟨hin, ?_⟩
      by_cases o1 : nI q &&& z0 = 0
      · have o1' : ki (nI w).toNatClampNeg &&& z0 = 0 := by rw [hki']; exact o1
        exact br_t o1' (h0 (fun h => h.1 o1))
      · have o1' : ¬ ki (nI w).toNatClampNeg &&& z0 = 0 := by rw [hki']; exact o1
        refine br_f o1' ⟨hin, ?_⟩
        by_cases o2 : f + l - 1 < a
        · have o2' : la (nI w).toNatClampNeg < nI a := by rw [hla']; exact nI_lt o2 (by omega)
          exact br_t o2' (h0 (by omega))
        · have o2' : ¬ la (nI w).toNatClampNeg < nI a := by rw [hla']; exact nI_nlt (by omega) (by omega)
          refine br_f o2' ⟨hin, ?_⟩
          by_cases o3 : a + s ≤ f
          · have o3' : nI a + nI s ≤ fi (nI w).toNatClampNeg := by rw [ea, hfi']; exact nI_le o3 (by omega)
            exact br_t o3' (h0 (by omega))
          · have o3' : ¬ nI a + nI s ≤ fi (nI w).toNatClampNeg := by rw [ea, hfi']; exact nI_ge (by omega) (by omega)
            exact br_f o3' (h1 ⟨o1, by omega, by omega⟩)
  unfold wpX_isHit
  exact br_c (fun h => key 1 (Or.inl ⟨h, rfl⟩)) (fun h => key 2 (Or.inr ⟨h, rfl⟩))
/-! values and remembered bytes -/
theorem wu_neg1 : (nI 0 + (-1) : Int32) < 0 := by decide
theorem wu_xv7 {a : Nat} {post : Int32 → Prop} : ∀ n x, a + n ≤ 40 → post (wu_vx (fun j => me (a + j)) n x) → wX_valueAt_7 post (nI a) bl st lo ru ac sc me on pa fi la ki sk hi bS bZ bW bM kM kA kN kB kF ob (n + 1) x (nI n + (-1)) := by
  intro n
  induction n with
  | zero =>
    intro x _ h
    exact br_t wu_neg1 h
  | succ n ih =>
    intro x hn h
    rw [pk_m1]
    have ea : nI a + nI n = nI (a + n) := nI_add a n
    have hc : (nI a + nI n).toNatClampNeg = a + n := by rw [ea]; exact nI_clamp (by omega)
    refine br_f (nI_pos (by omega)) ⟨by rw [ea]; exact vp_in_nI (by omega) (by decide), nm_r (by rw [hc]) (nm_e ?_)⟩
    exact ih _ (by omega) h
theorem wu_xv {a s : Nat} {post : Int32 → Prop} (ha : a + s ≤ 40) (h : post (wu_vx (fun j => me (a + j)) s 0)) : wpX_valueAt post (bl, st, lo, ru, ac, sc, me, on, pa, fi, la, ki, sk, hi, bS, bZ, bW, bM, kM, kA, kN, kB, kF, ob) (nI a) (nI s) := by
  unfold wpX_valueAt
  exact nm_r (Int32.sub_eq_add_neg _ _) ⟨s + 1, wu_xv7 s 0 ha h⟩
theorem wu_xo6 {post : Int32 → Prop} : ∀ n x, n ≤ 4 → post (wu_vx ob n x) → wX_oldValue_6 post bl st lo ru ac sc me on pa fi la ki sk hi bS bZ bW bM kM kA kN kB kF ob (n + 1) x (nI n + (-1)) := by
  intro n
  induction n with
  | zero =>
    intro x _ h
    exact br_t wu_neg1 h
  | succ n ih =>
    intro x hn h
    rw [pk_m1]
    have hc : (nI n).toNatClampNeg = n := nI_clamp (by omega)
    refine br_f (nI_pos (by omega)) ⟨vp_in_nI (by omega) (by decide), nm_r (by rw [hc]) (nm_e ?_)⟩
    exact ih _ (by omega) h
theorem wu_xo {s : Nat} {post : Int32 → Prop} (hs : s ≤ 4) (h : post (wu_vx ob s 0)) : wpX_oldValue post (bl, st, lo, ru, ac, sc, me, on, pa, fi, la, ki, sk, hi, bS, bZ, bW, bM, kM, kA, kN, kB, kF, ob) (nI s) := by
  unfold wpX_oldValue
  exact nm_r (Int32.sub_eq_add_neg _ _) ⟨s + 1, wu_xo6 s 0 hs h⟩
theorem wu_xr2 {a s : Nat} {post : SX → Prop} (ha : a + s ≤ 40) (hs : s ≤ 4) (h : post (bl, st, lo, ru, ac, sc, me, on, pa, fi, la, ki, sk, hi, bS, bZ, bW, bM, kM, kA, kN, kB, kF, wu_cp me ob a s)) : ∀ d j, j + d = s → wX_remember_2 post (nI a) (nI s) bl st lo ru ac sc (d + 1) (nI j) me on pa fi la ki sk hi bS bZ bW bM kM kA kN kB kF (wu_cp me ob a j) := by
  intro d
  induction d with
  | zero =>
    intro j hj
    have e : j = s := by omega
    subst e
    exact br_t (nI_le (Nat.le_refl j) (by omega)) h
  | succ d ih =>
    intro j hj
    have c1 : ¬ nI s ≤ nI j := nI_ge (by omega) (by omega)
    have ea : nI a + nI j = nI (a + j) := nI_add a j
    have hc : (nI a + nI j).toNatClampNeg = a + j := by rw [ea]; exact nI_clamp (by omega)
    have hj' : (nI j).toNatClampNeg = j := nI_clamp (by omega)
    refine br_f c1 ⟨by rw [ea]; exact vp_in_nI (by omega) (by decide), vp_in_nI (by omega) (by decide), nm_r (by rw [hc, hj', wu_cp_s]) (nm_r (nI_1 j) ?_)⟩
    exact ih (j + 1) (by omega)
theorem wu_xr {a s : Nat} {post : SX → Prop} (ha : a + s ≤ 40) (hs : s ≤ 4) (h : post (bl, st, lo, ru, ac, sc, me, on, pa, fi, la, ki, sk, hi, bS, bZ, bW, bM, kM, kA, kN, kB, kF, wu_cp me ob a s)) : wpX_remember post (bl, st, lo, ru, ac, sc, me, on, pa, fi, la, ki, sk, hi, bS, bZ, bW, bM, kM, kA, kN, kB, kF, ob) (nI a) (nI s) := by
  have g := wu_xr2 ha hs h s 0 (by omega)
  rw [wu_cp_0] at g
  unfold wpX_remember
  exact ⟨s + 1, g⟩
theorem wu_xs29 {a s : Nat} {v : Int32} {post : Int32 → SX → Prop} (ha : a + s ≤ 40) (hs : s ≤ 4) (h : wpX_finish (fun r u => match u with | (bl, st, lo, ru, ac, sc, me, on, pa, fi, la, ki, sk, hi, bS, bZ, bW, bM, kM, kA, kN, kB, kF, ob) => post r (bl, st, lo, ru, ac, sc, me, on, pa, fi, la, ki, sk, hi, bS, bZ, bW, bM, kM, kA, kN, kB, kF, ob)) (bl, st, lo, ru, ac, sc, wu_wm me a v s, on, pa, fi, la, ki, sk, hi, bS, bZ, bW, bM, kM, kA, kN, kB, kF, ob) (nI a) (nI s) 1) : ∀ d j, j + d = s → wX_store_29 post (nI a) (nI s) v bl st lo ru ac sc (d + 1) (nI j) (wu_wm me a v j) on pa fi la ki sk hi bS bZ bW bM kM kA kN kB kF ob := by
  intro d
  induction d with
  | zero =>
    intro j hj
    have e : j = s := by omega
    subst e
    exact br_t (nI_le (Nat.le_refl j) (by omega)) h
  | succ d ih =>
    intro j hj
    have c1 : ¬ nI s ≤ nI j := nI_ge (by omega) (by omega)
    have ea : nI a + nI j = nI (a + j) := nI_add a j
    have hc : (nI a + nI j).toNatClampNeg = a + j := by rw [ea]; exact nI_clamp (by omega)
    refine br_f c1 ⟨by rw [ea]; exact vp_in_nI (by omega) (by decide), nm_r (by rw [hc, wu_byX v j (by omega)]) (nm_r (nI_1 j) ?_)⟩
    exact ih (j + 1) (by omega)
end
end
section
/-! the reference: inRange, hit, number, keep, the copies of access -/
section
variable {bl st lo ru ac sc kp : Int32} {me on pa fi la ki sk hi bS bZ bW bM kM kA kN kB kF ob od le mM mA mN mB mF : Nat → Int32}
theorem wu_yin {w x f l : Nat} {post : Int32 → Prop} (hw : w < 8) (hfi : fi w = nI f) (hle : le w = nI l) (hfl : f + l ≤ 40) (hx : x < 100) (h1 : f ≤ x ∧ x < f + l → post 1) (h0 : ¬ (f ≤ x ∧ x < f + l) → post 0) : wpY_inRange post (ac, sc, kp, me, od, on, fi, le, ki, pa, sk, hi, mM, mA, mN, mB, mF) (nI w) (nI x) := by
  have hc : (nI w).toNatClampNeg = w := nI_clamp (by omega)
  have hin : vp_in (nI w) 8 := vp_in_nI hw (by decide)
  have hfi' : fi (nI w).toNatClampNeg = nI f := by rw [hc]; exact hfi
  have hs : fi (nI w).toNatClampNeg + le (nI w).toNatClampNeg = nI (f + l) := by rw [hc, hfi, hle, nI_add]
  unfold wpY_inRange
  refine ⟨hin, ?_⟩
  by_cases o1 : x < f
  · have o1' : nI x < fi (nI w).toNatClampNeg := by rw [hfi']; exact nI_lt o1 (by omega)
    exact br_t o1' (h0 (by omega))
  · have o1' : ¬ nI x < fi (nI w).toNatClampNeg := by rw [hfi']; exact nI_nlt (by omega) (by omega)
    refine br_f o1' ⟨hin, hin, ?_⟩
    by_cases o2 : f + l ≤ x
    · have o2' : fi (nI w).toNatClampNeg + le (nI w).toNatClampNeg ≤ nI x := by rw [hs]; exact nI_le o2 (by omega)
      exact br_t o2' (h0 (by omega))
    · have o2' : ¬ fi (nI w).toNatClampNeg + le (nI w).toNatClampNeg ≤ nI x := by rw [hs]; exact nI_ge (by omega) (by omega)
      exact br_f o2' (h1 (by omega))
/-- a flag: 1 if P, else 0 -/
def wu_fl (x : Int32) (P : Prop) : Prop := (x = 1 ∧ P) ∨ (x = 0 ∧ ¬ P)
theorem wu_T_s {f l a j : Nat} : wu_T f l a (j + 1) ↔ wu_T f l a j ∨ (f ≤ a + j ∧ a + j < f + l) := by
  constructor
  · intro ⟨i, h1, h2⟩
    rcases Nat.lt_or_ge i j with g | g
    · exact Or.inl ⟨i, g, h2⟩
    · have e : i = j := by omega
      subst e; exact Or.inr h2
  · intro h
    rcases h with ⟨i, h1, h2⟩ | h
    · exact ⟨i, by omega, h2⟩
    · exact ⟨j, by omega, h⟩
theorem wu_C_s {f l a j : Nat} : wu_C me od f l a (j + 1) ↔ wu_C me od f l a j ∨ (f ≤ a + j ∧ a + j < f + l ∧ ¬ me (a + j) = od (a + j)) := by
  constructor
  · intro ⟨i, h1, h2⟩
    rcases Nat.lt_or_ge i j with g | g
    · exact Or.inl ⟨i, g, h2⟩
    · have e : i = j := by omega
      subst e; exact Or.inr h2
  · intro h
    rcases h with ⟨i, h1, h2⟩ | h
    · exact ⟨i, by omega, h2⟩
    · exact ⟨j, by omega, h⟩
theorem wu_yh29 {w a s f l : Nat} {wr : Int32} {post : Int32 → Prop} (hw : w < 8) (hfi : fi w = nI f) (hle : le w = nI l) (hfl : f + l ≤ 40) (ha : a + s ≤ 40)
    (K : ∀ x5 x6, wu_fl x5 (wu_T f l a s) → wu_fl x6 (wu_C me od f l a s) → wY_hit_83 post (nI w) wr x5 x6 ac sc kp me od on fi le ki pa sk hi mM mA mN mB mF) :
    ∀ d j, j + d = s → ∀ x5 x6, wu_fl x5 (wu_T f l a j) → wu_fl x6 (wu_C me od f l a j) → wY_hit_29 post (nI w) (nI a) (nI s) wr ac sc kp me od on fi le ki pa sk hi mM mA mN mB mF (d + 1) x5 x6 (nI (a + j)) := by
  have ea : nI a + nI s = nI (a + s) := nI_add a s
  intro d
  induction d with
  | zero =>
    intro j hj x5 x6 h5 h6
    have e : j = s := by omega
    subst e
    have c1 : nI a + nI j ≤ nI (a + j) := by rw [ea]; exact nI_le (Nat.le_refl _) (by omega)
    exact br_t c1 (K x5 x6 h5 h6)
  | succ d ih =>
    intro j hj x5 x6 h5 h6
    have c1 : ¬ nI a + nI s ≤ nI (a + j) := by rw [ea]; exact nI_ge (by omega) (by omega)
    have c2 : ¬ 40 ≤ nI (a + j) := nI_ge (b := 40) (by omega) (by decide)
    have hc : (nI (a + j)).toNatClampNeg = a + j := nI_clamp (by omega)
    have hin : vp_in (nI (a + j)) 40 := vp_in_nI (by omega) (by decide)
    have nx : nI (a + j) + 1 = nI (a + (j + 1)) := nI_1 (a + j)
    have one : ¬ (1 : Int32) = 0 := by decide
    refine br_f c1 (br_f c2 (wu_yin hw hfi hle hfl (by omega) ?_ ?_))
    · intro hr
      refine br_f one ⟨hin, hin, ?_⟩
      have t5 : wu_fl 1 (wu_T f l a (j + 1)) := Or.inl ⟨rfl, wu_T_s.mpr (Or.inr hr)⟩
      by_cases o : me (a + j) = od (a + j)
      · have o' : me (nI (a + j)).toNatClampNeg = od (nI (a + j)).toNatClampNeg := by rw [hc]; exact o
        refine br_t o' (nm_r nx (ih (j + 1) (by omega) 1 x6 t5 ?_))
        rcases h6 with ⟨e, h⟩ | ⟨e, h⟩
        · exact Or.inl ⟨e, wu_C_s.mpr (Or.inl h)⟩
        · exact Or.inr ⟨e, fun g => (wu_C_s.mp g).elim h (fun k => k.2.2 o)⟩
      · have o' : ¬ me (nI (a + j)).toNatClampNeg = od (nI (a + j)).toNatClampNeg := by rw [hc]; exact o
        exact br_f o' (nm_r nx (ih (j + 1) (by omega) 1 1 t5 (Or.inl ⟨rfl, wu_C_s.mpr (Or.inr ⟨hr.1, hr.2, o⟩)⟩)))
    · intro hr
      refine br_t rfl (nm_r nx (ih (j + 1) (by omega) x5 x6 ?_ ?_))
      · rcases h5 with ⟨e, h⟩ | ⟨e, h⟩
        · exact Or.inl ⟨e, wu_T_s.mpr (Or.inl h)⟩
        · exact Or.inr ⟨e, fun g => (wu_T_s.mp g).elim h hr⟩
      · rcases h6 with ⟨e, h⟩ | ⟨e, h⟩
        · exact Or.inl ⟨e, wu_C_s.mpr (Or.inl h)⟩
        · exact Or.inr ⟨e, fun g => (wu_C_s.mp g).elim h (fun k => hr ⟨k.1, k.2.1⟩)⟩
theorem wu_yh83 {w q : Nat} {wr x5 x6 : Int32} {T C : Prop} {post : Int32 → Prop} (hw : w < 8) (hki : ki w = nI q) (hq1 : 1 ≤ q) (hq4 : q ≤ 4) (h5 : wu_fl x5 T) (h6 : wu_fl x6 C) (h1 : wu_hk q wr T C → post 1) (h0 : ¬ wu_hk q wr T C → post 0) : wY_hit_83 post (nI w) wr x5 x6 ac sc kp me od on fi le ki pa sk hi mM mA mN mB mF := by
  have hc : (nI w).toNatClampNeg = w := nI_clamp (by omega)
  have hin : vp_in (nI w) 8 := vp_in_nI hw (by decide)
  have hki' : ki (nI w).toNatClampNeg = nI q := by rw [hc]; exact hki
  have ne : ∀ b : Nat, b < 100 → ¬ q = b → ¬ ki (nI w).toNatClampNeg = nI b := by
    intro b hb h e
    rw [hki'] at e
    exact h ((nI_eq (by omega) (by omega)).mp e)
  have z5 : ∀ {A B : Prop}, (¬ T → A) → (T → B) → (x5 = 0 → A) ∧ (¬ x5 = 0 → B) := by
    intro A B hA hB
    rcases h5 with ⟨e, h⟩ | ⟨e, h⟩
    · subst e; exact br_f (by decide) (hB h)
    · exact br_t e (hA h)
  have z6 : ∀ {A B : Prop}, (¬ C → A) → (C → B) → (x6 = 0 → A) ∧ (¬ x6 = 0 → B) := by
    intro A B hA hB
    rcases h6 with ⟨e, h⟩ | ⟨e, h⟩
    · subst e; exact br_f (by decide) (hB h)
    · exact br_t e (hA h)
  have hq : q = 1 ∨ q = 2 ∨ q = 3 ∨ q = 4 := by omega
  unfold wY_hit_83
  refine ⟨hin, ?_⟩
  rcases hq with e | e | e | e
  · subst e
    have hk : wu_hk 1 wr T C ↔ (wr = 0 ∧ T) := ⟨fun h => by rcases h with ⟨_, g⟩ | ⟨g, _⟩ | ⟨g, _⟩ | ⟨g, _⟩ <;> first | exact g | omega, fun h => Or.inl ⟨rfl, h⟩⟩
    rw [hk] at h1 h0
    exact br_t hki' (z5 (fun t => h0 (fun g => t g.2)) (fun t => br_c (fun e => h1 ⟨e, t⟩) (fun e => h0 (fun g => e g.1))))
  · subst e
    have hk : wu_hk 2 wr T C ↔ (¬ wr = 0 ∧ T) := ⟨fun h => by rcases h with ⟨g, _⟩ | ⟨_, g⟩ | ⟨g, _⟩ | ⟨g, _⟩ <;> first | exact g | omega, fun h => Or.inr (Or.inl ⟨rfl, h⟩)⟩
    rw [hk] at h1 h0
    exact br_f (ne 1 (by omega) (by omega)) ⟨hin, br_t hki' (z5 (fun t => h0 (fun g => t g.2)) (fun t => br_c (fun e => h0 (fun g => g.1 e)) (fun e => h1 ⟨e, t⟩)))⟩
  · subst e
    have hk : wu_hk 3 wr T C ↔ T := ⟨fun h => by rcases h with ⟨g, _⟩ | ⟨g, _⟩ | ⟨_, g⟩ | ⟨g, _⟩ <;> first | exact g | omega, fun h => Or.inr (Or.inr (Or.inl ⟨rfl, h⟩))⟩
    rw [hk] at h1 h0
    refine br_f (ne 1 (by omega) (by omega)) ⟨hin, br_f (ne 2 (by omega) (by omega)) ⟨hin, br_f (ne 4 (by omega) (by omega)) ?_⟩⟩
    rcases h5 with ⟨e, h⟩ | ⟨e, h⟩
    · subst e; exact ⟨rfl, h1 h⟩
    · subst e; exact ⟨rfl, h0 h⟩
  · subst e
    have hk : wu_hk 4 wr T C ↔ (¬ wr = 0 ∧ C) := ⟨fun h => by rcases h with ⟨g, _⟩ | ⟨g, _⟩ | ⟨g, _⟩ | ⟨_, g⟩ <;> first | exact g | omega, fun h => Or.inr (Or.inr (Or.inr ⟨rfl, h⟩))⟩
    rw [hk] at h1 h0
    exact br_f (ne 1 (by omega) (by omega)) ⟨hin, br_f (ne 2 (by omega) (by omega)) ⟨hin, br_t hki' (z6 (fun t => h0 (fun g => t g.2)) (fun t => br_c (fun e => h0 (fun g => g.1 e)) (fun e => h1 ⟨e, t⟩)))⟩⟩
theorem wu_yhit {w a s f l q : Nat} {wr : Int32} {post : Int32 → Prop} (hw : w < 8) (hrun : wu_run on pa w) (hfi : fi w = nI f) (hle : le w = nI l) (hki : ki w = nI q) (hfl : f + l ≤ 40) (hq1 : 1 ≤ q) (hq4 : q ≤ 4) (ha : a + s ≤ 40)
    (h1 : wu_hk q wr (wu_T f l a s) (wu_C me od f l a s) → post 1) (h0 : ¬ wu_hk q wr (wu_T f l a s) (wu_C me od f l a s) → post 0) : wpY_hit post (ac, sc, kp, me, od, on, fi, le, ki, pa, sk, hi, mM, mA, mN, mB, mF) (nI w) (nI a) (nI s) wr := by
  have hc : (nI w).toNatClampNeg = w := nI_clamp (by omega)
  have hin : vp_in (nI w) 8 := vp_in_nI hw (by decide)
  have e1 : ¬ on (nI w).toNatClampNeg = 0 := by rw [hc]; exact hrun.1
  have e2 : pa (nI w).toNatClampNeg = 0 := by rw [hc]; exact hrun.2
  unfold wpY_hit
  refine ⟨hin, br_f e1 ⟨hin, br_t e2 ⟨s + 1, ?_⟩⟩⟩
  have g := wu_yh29 (ac := ac) (sc := sc) (kp := kp) (on := on) (ki := ki) (pa := pa) (sk := sk) (hi := hi) (mM := mM) (mA := mA) (mN := mN) (mB := mB) (mF := mF) (wr := wr) (post := post) hw hfi hle hfl ha (fun x5 x6 h5 h6 => wu_yh83 hw hki hq1 hq4 h5 h6 h1 h0) s 0 (by omega) 0 0 (Or.inr ⟨rfl, fun ⟨i, hi, _⟩ => absurd hi (by omega)⟩) (Or.inr ⟨rfl, fun ⟨i, hi, _⟩ => absurd hi (by omega)⟩)
  exact g
theorem wu_yhit0 {w : Nat} {x2 x3 wr : Int32} {post : Int32 → Prop} (hw : w < 8) (hrun : ¬ wu_run on pa w) (h : post 0) : wpY_hit post (ac, sc, kp, me, od, on, fi, le, ki, pa, sk, hi, mM, mA, mN, mB, mF) (nI w) x2 x3 wr := by
  have hc : (nI w).toNatClampNeg = w := nI_clamp (by omega)
  have hin : vp_in (nI w) 8 := vp_in_nI hw (by decide)
  unfold wpY_hit
  refine ⟨hin, br_c (fun _ => h) (fun e1 => ⟨hin, br_c (fun e2 => ?_) (fun _ => h)⟩)⟩
  rw [hc] at e1 e2
  exact absurd ⟨e1, e2⟩ hrun
/-! numbers -/
theorem wu_yn6 {a s : Nat} {x3 : Int32} {g : Nat → Int32} {post : Int32 → Prop} (hg : (x3 = 0 ∧ g = od) ∨ (¬ x3 = 0 ∧ g = me)) (ha : a + s ≤ 40) (h : post (wu_vy (fun j => g (a + j)) s)) : ∀ d j, j + d = s → wY_number_6 post (nI a) (nI s) x3 ac sc kp me od on fi le ki pa sk hi mM mA mN mB mF (d + 1) (wu_vy (fun j => g (a + j)) j) (nI j) := by
  intro d
  induction d with
  | zero =>
    intro j hj
    have e : j = s := by omega
    subst e
    exact br_t (nI_le (Nat.le_refl j) (by omega)) h
  | succ d ih =>
    intro j hj
    have c1 : ¬ nI s ≤ nI j := nI_ge (by omega) (by omega)
    have ea : nI a + nI j = nI (a + j) := nI_add a j
    have hc : (nI a + nI j).toNatClampNeg = a + j := by rw [ea]; exact nI_clamp (by omega)
    have hin : vp_in (nI a + nI j) 40 := by rw [ea]; exact vp_in_nI (by omega) (by decide)
    rcases hg with ⟨e, rfl⟩ | ⟨e, rfl⟩
    · refine br_f c1 (br_t e ⟨hin, ?_⟩)
      unfold wY_number_37
      exact nm_r (by rw [hc]; rfl) (nm_r (nI_1 j) (ih (j + 1) (by omega)))
    · refine br_f c1 (br_f e ⟨hin, ?_⟩)
      unfold wY_number_37
      exact nm_r (by rw [hc]; rfl) (nm_r (nI_1 j) (ih (j + 1) (by omega)))
theorem wu_yn0 {a s : Nat} {post : Int32 → Prop} (ha : a + s ≤ 40) (h : post (wu_vy (fun j => od (a + j)) s)) : wpY_number post (ac, sc, kp, me, od, on, fi, le, ki, pa, sk, hi, mM, mA, mN, mB, mF) (nI a) (nI s) 0 := by
  unfold wpY_number
  exact ⟨s + 1, wu_yn6 (Or.inl ⟨rfl, rfl⟩) ha h s 0 (by omega)⟩
theorem wu_yn1 {a s : Nat} {post : Int32 → Prop} (ha : a + s ≤ 40) (h : post (wu_vy (fun j => me (a + j)) s)) : wpY_number post (ac, sc, kp, me, od, on, fi, le, ki, pa, sk, hi, mM, mA, mN, mB, mF) (nI a) (nI s) 1 := by
  unfold wpY_number
  exact ⟨s + 1, wu_yn6 (Or.inr ⟨by decide, rfl⟩) ha h s 0 (by omega)⟩
/-! keep -/
theorem wu_yk4 {a s n : Nat} {m : Int32} {post : SY → Prop} (ha : a + s ≤ 40) (hkp : kp = nI n) (hn : n ≤ 8)
    (h : post (ac, sc + 1, nI (if n < 8 then n + 1 else n), me, od, on, fi, le, ki, pa, sk, hi, upd (wu_sf mM 0) 0 m, upd (wu_sf mA 0) 0 (nI a), upd (wu_sf mN 0) 0 ac, upd (wu_sf mB 0) 0 (wu_vy (fun j => od (a + j)) s), upd (wu_sf mF 0) 0 (wu_vy (fun j => me (a + j)) s))) :
    ∀ j, j ≤ 7 → wY_keep_4 post m (nI a) (nI s) ac sc kp (j + 1) (nI j) me od on fi le ki pa sk hi (wu_sf mM j) (wu_sf mA j) (wu_sf mN j) (wu_sf mB j) (wu_sf mF j) := by
  intro j
  induction j with
  | zero =>
    intro _
    refine br_t (nI_le (a := 0) (b := 0) (by omega) (by decide)) (nm_e (nm_e (nm_e (wu_yn0 ha (nm_e (wu_yn1 ha (nm_e (nm_e ?_))))))))
    rw [hkp]
    by_cases e : n < 8
    · rw [if_pos e] at h
      exact br_f (nI_ge (b := 8) e (by decide)) (nm_r (nI_1 n) h)
    · rw [if_neg e] at h
      exact br_t (nI_le (a := 8) (by omega) (by omega)) h
  | succ j ih =>
    intro hj
    have c1 : ¬ nI (j + 1) ≤ 0 := nI_nle (by omega) (by omega)
    have ep : nI (j + 1) - 1 = nI j := nI_pred j
    have hi1 : vp_in (nI (j + 1) - 1) 8 := by rw [ep]; exact vp_in_nI (by omega) (by decide)
    have hi2 : vp_in (nI (j + 1)) 8 := vp_in_nI (by omega) (by decide)
    have hc1 : (nI (j + 1) - 1).toNatClampNeg = j := by rw [ep]; exact nI_clamp (by omega)
    have hc2 : (nI (j + 1)).toNatClampNeg = j + 1 := nI_clamp (by omega)
    have hu : ∀ g : Nat → Int32, upd (wu_sf g (j + 1)) (nI (j + 1)).toNatClampNeg (wu_sf g (j + 1) (nI (j + 1) - 1).toNatClampNeg) = wu_sf g j := by
      intro g
      rw [hc1, hc2]
      exact wu_sf_s g (by omega)
    exact br_f c1 ⟨hi1, hi2, nm_r (hu mM) ⟨hi1, hi2, nm_r (hu mA) ⟨hi1, hi2, nm_r (hu mN) ⟨hi1, hi2, nm_r (hu mB) ⟨hi1, hi2, nm_r (hu mF) (nm_r (pk_m1 j) (ih (by omega)))⟩⟩⟩⟩⟩
theorem wu_yk {a s n : Nat} {m : Int32} {post : SY → Prop} (ha : a + s ≤ 40) (hkp : kp = nI n) (hn : n ≤ 8)
    (h : post (ac, sc + 1, nI (if n < 8 then n + 1 else n), me, od, on, fi, le, ki, pa, sk, hi, upd (wu_sf mM 0) 0 m, upd (wu_sf mA 0) 0 (nI a), upd (wu_sf mN 0) 0 ac, upd (wu_sf mB 0) 0 (wu_vy (fun j => od (a + j)) s), upd (wu_sf mF 0) 0 (wu_vy (fun j => me (a + j)) s))) :
    wpY_keep post (ac, sc, kp, me, od, on, fi, le, ki, pa, sk, hi, mM, mA, mN, mB, mF) m (nI a) (nI s) := by
  have g := wu_yk4 ha hkp hn h 7 (by omega)
  rw [wu_sf_7, wu_sf_7, wu_sf_7, wu_sf_7, wu_sf_7] at g
  unfold wpY_keep
  exact ⟨8, g⟩
/-! the copies at the head of an access -/
theorem wu_ya3 {x1 x2 x3 x4 : Int32} {post : Int32 → SY → Prop} (h : ∃ n, wY_access_33 post x1 x2 x3 x4 ac sc kp n 0 me (wu_cp me od 0 40) on fi le ki pa sk hi mM mA mN mB mF) : ∀ d j, j + d = 40 → wY_access_3 post x1 x2 x3 x4 ac sc kp (d + 1) (nI j) me (wu_cp me od 0 j) on fi le ki pa sk hi mM mA mN mB mF := by
  intro d
  induction d with
  | zero =>
    intro j hj
    have e : j = 40 := by omega
    subst e
    exact br_t (nI_le (a := 40) (b := 40) (by omega) (by decide)) h
  | succ d ih =>
    intro j hj
    have c1 : ¬ 40 ≤ nI j := nI_ge (b := 40) (by omega) (by decide)
    have hc : (nI j).toNatClampNeg = j := nI_clamp (by omega)
    have hin : vp_in (nI j) 40 := vp_in_nI (by omega) (by decide)
    have hu : upd (wu_cp me od 0 j) (nI j).toNatClampNeg (me (nI j).toNatClampNeg) = wu_cp me od 0 (j + 1) := by
      rw [hc, ← wu_cp_s, Nat.zero_add]
    exact br_f c1 ⟨hin, hin, nm_r hu (nm_r (nI_1 j) (ih (j + 1) (by omega)))⟩
theorem wu_ya33w {a s : Nat} {x3 v : Int32} {post : Int32 → SY → Prop} (hx : ¬ x3 = 0) (ha : a + s ≤ 40) (h : ∃ n, wY_access_86 post (nI a) (nI s) x3 (ac + 1) sc kp n 0 0 (wu_wm me a v s) od on fi le ki pa sk hi mM mA mN mB mF) : ∀ d j, j + d = s → wY_access_33 post (nI a) (nI s) x3 v ac sc kp (d + 1) (nI j) (wu_wm me a v j) od on fi le ki pa sk hi mM mA mN mB mF := by
  intro d
  induction d with
  | zero =>
    intro j hj
    have e : j = s := by omega
    subst e
    exact br_t (nI_le (Nat.le_refl j) (by omega)) (nm_e h)
  | succ d ih =>
    intro j hj
    have c1 : ¬ nI s ≤ nI j := nI_ge (by omega) (by omega)
    have ea : nI a + nI j = nI (a + j) := nI_add a j
    have hc : (nI a + nI j).toNatClampNeg = a + j := by rw [ea]; exact nI_clamp (by omega)
    have hin : vp_in (nI a + nI j) 40 := by rw [ea]; exact vp_in_nI (by omega) (by decide)
    exact br_f c1 (br_f hx ⟨hin, nm_r (by rw [hc]; rfl) (nm_r (nI_1 j) (ih (j + 1) (by omega)))⟩)
theorem wu_ya33r {a s : Nat} {v : Int32} {post : Int32 → SY → Prop} (hs : s ≤ 4) (h : ∃ n, wY_access_86 post (nI a) (nI s) 0 (ac + 1) sc kp n 0 0 me od on fi le ki pa sk hi mM mA mN mB mF) : ∀ d j, j + d = s → wY_access_33 post (nI a) (nI s) 0 v ac sc kp (d + 1) (nI j) me od on fi le ki pa sk hi mM mA mN mB mF := by
  intro d
  induction d with
  | zero =>
    intro j hj
    have e : j = s := by omega
    subst e
    exact br_t (nI_le (Nat.le_refl j) (by omega)) (nm_e h)
  | succ d ih =>
    intro j hj
    have c1 : ¬ nI s ≤ nI j := nI_ge (by omega) (by omega)
    exact br_f c1 (br_t rfl (nm_r (nI_1 j) (ih (j + 1) (by omega))))
/-- a write's access, up to the watches -/
theorem wu_yaw {a s : Nat} {v : Int32} {post : Int32 → SY → Prop} (ha : a + s ≤ 40) (h : ∃ n, wY_access_86 post (nI a) (nI s) 1 (ac + 1) sc kp n 0 0 (wu_wm me a v s) (wu_cp me od 0 40) on fi le ki pa sk hi mM mA mN mB mF) : wpY_access post (ac, sc, kp, me, od, on, fi, le, ki, pa, sk, hi, mM, mA, mN, mB, mF) (nI a) (nI s) 1 v := by
  have g := wu_ya3 (me := me) (od := od) (post := post) ⟨s + 1, wu_ya33w (me := me) (v := v) (by decide) ha h s 0 (by omega)⟩ 40 0 (by omega)
  rw [wu_cp_0] at g
  unfold wpY_access
  exact ⟨41, g⟩
theorem wu_yar {a s : Nat} {v : Int32} {post : Int32 → SY → Prop} (hs : s ≤ 4) (h : ∃ n, wY_access_86 post (nI a) (nI s) 0 (ac + 1) sc kp n 0 0 me (wu_cp me od 0 40) on fi le ki pa sk hi mM mA mN mB mF) : wpY_access post (ac, sc, kp, me, od, on, fi, le, ki, pa, sk, hi, mM, mA, mN, mB, mF) (nI a) (nI s) 0 v := by
  have g := wu_ya3 (me := me) (od := od) (post := post) ⟨s + 1, wu_ya33r (v := v) hs h s 0 (by omega)⟩ 40 0 (by omega)
  rw [wu_cp_0] at g
  unfold wpY_access
  exact ⟨41, g⟩
/-- the count of the mask's bits -/
theorem wu_ys41 {m : Int32} {post : Int32 → SY → Prop} (h : post (nI (wu_cnt m 8)) (ac, sc, kp, me, od, on, fi, le, ki, pa, sk, hi, mM, mA, mN, mB, mF)) : ∀ d j, j + d = 8 → wY_store_41 post m ac sc kp me od on fi le ki pa sk hi mM mA mN mB mF (d + 1) (nI (wu_cnt m j)) (nI j) := by
  intro d
  induction d with
  | zero =>
    intro j hj
    have e : j = 8 := by omega
    subst e
    exact br_t (nI_le (a := 8) (b := 8) (by omega) (by decide)) h
  | succ d ih =>
    intro j hj
    have c1 : ¬ 8 ≤ nI j := nI_ge (b := 8) (by omega) (by decide)
    have e : nI (wu_cnt m j) + ((m >>> (nI j &&& 31)) &&& 1) = nI (wu_cnt m (j + 1)) := by
      rw [wu_bit m j (by omega), wu_cnt]
      by_cases b : bt m j = true
      · rw [if_pos b, if_pos b]; exact nI_1 _
      · rw [if_neg b, if_neg b]; exact Int32.add_zero _
    exact br_f c1 (nm_r e (nm_r (nI_1 j) (ih (j + 1) (by omega))))
end
end
section
/-! the relation; an access on both sides -/
def wu_rg (t : Nat) (k m : Nat → Int32) : Prop := ∀ i, i < t → i < 8 → m i = k ((t - 1 - i) % 8)
theorem wu_rg_s {t : Nat} {k m : Nat → Int32} {x y : Int32} (e : x = y) (h : wu_rg t k m) : wu_rg (t + 1) (upd k (t % 8) x) (upd (wu_sf m 0) 0 y) := by
  subst e
  intro i h1 h2
  by_cases e : i = 0
  · subst e
    rw [pk_us, show t + 1 - 1 - 0 = t by omega, pk_us]
  · have e2 : (t + 1 - 1 - i) % 8 ≠ t % 8 := by omega
    rw [pk_un e, pk_un e2, show t + 1 - 1 - i = t - 1 - (i - 1) by omega, ← h (i - 1) (by omega) (by omega)]
    exact if_pos (by omega)
def wu_n8 (t : Nat) : Nat := if t < 8 then t else 8
def wu_stk (B : Nat) (sc kp : Int32) (kM kA kN kB kF mM mA mN mB mF : Nat → Int32) : Prop := ∃ t : Nat, t ≤ B ∧ sc = nI t ∧ kp = nI (wu_n8 t) ∧ wu_rg t kM mM ∧ wu_rg t kA mA ∧ wu_rg t kN mN ∧ wu_rg t kB mB ∧ wu_rg t kF mF
theorem wu_n8_s (t : Nat) : (if wu_n8 t < 8 then wu_n8 t + 1 else wu_n8 t) = wu_n8 (t + 1) := by
  unfold wu_n8
  by_cases h : t < 8
  · rw [if_pos h, if_pos h]
    by_cases g : t + 1 < 8
    · rw [if_pos g]
    · rw [if_neg g]; omega
  · rw [if_neg h, if_neg (by omega), if_neg (by omega)]
theorem wu_n8_le (t : Nat) : wu_n8 t ≤ 8 := by
  unfold wu_n8
  by_cases h : t < 8
  · rw [if_pos h]; omega
  · rw [if_neg h]; omega
section
variable {bl st lo ru ac sc kp : Int32} {me on pa fi la ki sk hi bS bZ bW bM kM kA kN kB kF ob od le mM mA mN mB mF : Nat → Int32}
def wu_rel (B : Nat) (bl st lo ru sc kp : Int32) (on pa fi la le ki bS bZ bW bM kM kA kN kB kF mM mA mN mB mF : Nat → Int32) : Prop :=
  wu_rng on fi la le ki ∧ wu_stk B sc kp kM kA kN kB kF mM mA mN mB mF ∧ (¬ lo = 0 → wu_ld on pa fi la ki bl st ru bS bZ bW bM)
def wu_R (B : Nat) (u : SX) (v : SY) : Prop := ∃ (bl st lo ru ac sc kp : Int32) (me on pa fi la ki sk hi bS bZ bW bM kM kA kN kB kF ob od le mM mA mN mB mF : Nat → Int32),
  u = (bl, st, lo, ru, ac, sc, me, on, pa, fi, la, ki, sk, hi, bS, bZ, bW, bM, kM, kA, kN, kB, kF, ob) ∧ v = (ac, sc, kp, me, od, on, fi, le, ki, pa, sk, hi, mM, mA, mN, mB, mF) ∧ wu_rel B bl st lo ru sc kp on pa fi la le ki bS bZ bW bM kM kA kN kB kF mM mA mN mB mF
theorem wu_mk {B : Nat} (h : wu_rel B bl st lo ru sc kp on pa fi la le ki bS bZ bW bM kM kA kN kB kF mM mA mN mB mF) : wu_R B (bl, st, lo, ru, ac, sc, me, on, pa, fi, la, ki, sk, hi, bS, bZ, bW, bM, kM, kA, kN, kB, kF, ob) (ac, sc, kp, me, od, on, fi, le, ki, pa, sk, hi, mM, mA, mN, mB, mF) :=
  ⟨bl, st, lo, ru, ac, sc, kp, me, on, pa, fi, la, ki, sk, hi, bS, bZ, bW, bM, kM, kA, kN, kB, kF, ob, od, le, mM, mA, mN, mB, mF, rfl, rfl, h⟩
theorem wu_el {B : Nat} {u : SX} {v : SY} {P : SX → SY → Prop} (h : ∀ (bl st lo ru ac sc kp : Int32) (me on pa fi la ki sk hi bS bZ bW bM kM kA kN kB kF ob od le mM mA mN mB mF : Nat → Int32), wu_rel B bl st lo ru sc kp on pa fi la le ki bS bZ bW bM kM kA kN kB kF mM mA mN mB mF → P (bl, st, lo, ru, ac, sc, me, on, pa, fi, la, ki, sk, hi, bS, bZ, bW, bM, kM, kA, kN, kB, kF, ob) (ac, sc, kp, me, od, on, fi, le, ki, pa, sk, hi, mM, mA, mN, mB, mF)) (I : wu_R B u v) : P u v :=
  Exists.elim I fun bl I => Exists.elim I fun st I => Exists.elim I fun lo I => Exists.elim I fun ru I => Exists.elim I fun ac I => Exists.elim I fun sc I => Exists.elim I fun kp I =>
  Exists.elim I fun me I => Exists.elim I fun on I => Exists.elim I fun pa I => Exists.elim I fun fi I => Exists.elim I fun la I => Exists.elim I fun ki I => Exists.elim I fun sk I => Exists.elim I fun hi I =>
  Exists.elim I fun bS I => Exists.elim I fun bZ I => Exists.elim I fun bW I => Exists.elim I fun bM I => Exists.elim I fun kM I => Exists.elim I fun kA I => Exists.elim I fun kN I => Exists.elim I fun kB I => Exists.elim I fun kF I => Exists.elim I fun ob I =>
  Exists.elim I fun od I => Exists.elim I fun le I => Exists.elim I fun mM I => Exists.elim I fun mA I => Exists.elim I fun mN I => Exists.elim I fun mB I => Exists.elim I fun mF I =>
  I.1.symm ▸ I.2.1.symm ▸ h bl st lo ru ac sc kp me on pa fi la ki sk hi bS bZ bW bM kM kA kN kB kF ob od le mM mA mN mB mF I.2.2
theorem wu_stk_up {B B' : Nat} (hB : B ≤ B') (h : wu_stk B sc kp kM kA kN kB kF mM mA mN mB mF) : wu_stk B' sc kp kM kA kN kB kF mM mA mN mB mF := by
  obtain ⟨t, h1, h2⟩ := h
  exact ⟨t, by omega, h2⟩
theorem wu_rel_up {B B' : Nat} (hB : B ≤ B') (h : wu_rel B bl st lo ru sc kp on pa fi la le ki bS bZ bW bM kM kA kN kB kF mM mA mN mB mF) : wu_rel B' bl st lo ru sc kp on pa fi la le ki bS bZ bW bM kM kA kN kB kF mM mA mN mB mF := ⟨h.1, wu_stk_up hB h.2.1, h.2.2⟩
theorem wu_R_up {B B' : Nat} {u : SX} {v : SY} (hB : B ≤ B') (h : wu_R B u v) : wu_R B' u v := by
  refine wu_el (P := fun u v => wu_R B' u v) ?_ h
  intro bl st lo ru ac sc kp me on pa fi la ki sk hi bS bZ bW bM kM kA kN kB kF ob od le mM mA mN mB mF h
  exact wu_mk (wu_rel_up hB h)
/-! the pass over the watches, in lockstep -/
theorem wu_loop {a s : Nat} {wr way left : Int32} (hr : wu_rng on fi la le ki) (ha : a + s ≤ 40) (hs1 : 1 ≤ s) (hs : s ≤ 4) (hob : ∀ j, j < s → ob j = od (a + j)) (hway : (wr = 0 ∧ way = 1) ∨ (¬ wr = 0 ∧ way = 2))
    (m1 : ∀ w, w < 8 → bt left w = true → wu_run on pa w) (m2 : ∀ w f e : Nat, w < 8 → wu_run on pa w → fi w = nI f → la w = nI e → e < 40 → f ≤ e → f < a + s → a ≤ e → ¬ wu_way (ki w) &&& way = 0 → 1 ≤ s → bt left w = true) :
    ∀ d w, w + d = 8 → ∀ (m c : Int32) (sk hi : Nat → Int32), wu_P w m c → ∃ (m' c' : Int32) (sk' hi' : Nat → Int32), wu_P 8 m' c' ∧
      (∀ post, wX_finish_47 post (nI a) (nI s) wr left bl st lo ru ac sc 1 m' c' (nI 8) me on pa fi la ki sk' hi' bS bZ bW bM kM kA kN kB kF ob → wX_finish_47 post (nI a) (nI s) wr left bl st lo ru ac sc (d + 1) m c (nI w) me on pa fi la ki sk hi bS bZ bW bM kM kA kN kB kF ob) ∧
      (∀ post, wY_access_86 post (nI a) (nI s) wr ac sc kp 1 m' (nI 8) me od on fi le ki pa sk' hi' mM mA mN mB mF → wY_access_86 post (nI a) (nI s) wr ac sc kp (d + 1) m (nI w) me od on fi le ki pa sk hi mM mA mN mB mF) := by
  intro d
  induction d with
  | zero =>
    intro w hw m c sk hi hP
    have e : w = 8 := by omega
    subst e
    exact ⟨m, c, sk, hi, hP, fun post h => h, fun post h => h⟩
  | succ d ih =>
    intro w hw m c sk hi hP
    have c1 : ¬ 8 ≤ nI w := nI_ge (b := 8) (by omega) (by decide)
    have hc : (nI w).toNatClampNeg = w := nI_clamp (by omega)
    have hin : vp_in (nI w) 8 := vp_in_nI (by omega) (by decide)
    have one : ¬ (1 : Int32) = 0 := by decide
    by_cases hrun : wu_run on pa w
    · obtain ⟨f, l, q, g1, g2, g3, g4, g5, g6, g7, g8, g9⟩ := hr w (by omega) hrun.1
      by_cases hk : wu_hk q wr (wu_T f l a s) (wu_C me od f l a s)
      · have hT := wu_hk_way g9 hway hk
        have hT2 := (wu_T_iff (f := f) (l := l) (a := a) (s := s) g5 hs1).mp hT.1
        have hbit : bt left w = true := m2 w f (f + l - 1) (by omega) hrun g1 g3 (by omega) (by omega) hT2.1 (by omega) (by rw [g4]; exact hT.2) hs1
        have hb := wu_bit1 (by omega : w < 32) hbit
        by_cases hsk : sk w ≤ 0
        · have hsk' : sk (nI w).toNatClampNeg ≤ 0 := by rw [hc]; exact hsk
          obtain ⟨m', c', sk', hi', k1, k2, k3⟩ := ih (w + 1) (by omega) (m ||| ((1 : Int32) <<< (nI w &&& 31))) (c + 1) sk (upd hi w (hi w + 1)) (wu_Ph (by omega) hP)
          refine ⟨m', c', sk', hi', k1, fun post h => br_f c1 (br_t hb ?_), fun post h => br_f c1 ?_⟩
          · refine wu_xhit (od := od) (by omega) g1 g3 g4 g5 g7 g8 g9 ha hs1 hs hob (fun _ => ?_) (fun hn => absurd hk hn)
            exact br_f one ⟨hin, br_t hsk' ⟨hin, hin, nm_r (by rw [hc]) (nm_e (nm_e (nm_r (nI_1 w) (k2 post h))))⟩⟩
          · refine wu_yhit (by omega) hrun g1 g2 g4 g7 g8 g9 ha (fun _ => ?_) (fun hn => absurd hk hn)
            exact br_f one ⟨hin, br_t hsk' ⟨hin, hin, nm_r (by rw [hc]) (nm_e (nm_r (nI_1 w) (k3 post h)))⟩⟩
        · have hsk' : ¬ sk (nI w).toNatClampNeg ≤ 0 := by rw [hc]; exact hsk
          obtain ⟨m', c', sk', hi', k1, k2, k3⟩ := ih (w + 1) (by omega) m c (upd sk w (sk w - 1)) hi (wu_Pm hP)
          refine ⟨m', c', sk', hi', k1, fun post h => br_f c1 (br_t hb ?_), fun post h => br_f c1 ?_⟩
          · refine wu_xhit (od := od) (by omega) g1 g3 g4 g5 g7 g8 g9 ha hs1 hs hob (fun _ => ?_) (fun hn => absurd hk hn)
            exact br_f one ⟨hin, br_f hsk' ⟨hin, hin, nm_r (by rw [hc]) (nm_r (nI_1 w) (k2 post h))⟩⟩
          · refine wu_yhit (by omega) hrun g1 g2 g4 g7 g8 g9 ha (fun _ => ?_) (fun hn => absurd hk hn)
            exact br_f one ⟨hin, br_f hsk' ⟨hin, hin, nm_r (by rw [hc]) (nm_r (nI_1 w) (k3 post h))⟩⟩
      · obtain ⟨m', c', sk', hi', k1, k2, k3⟩ := ih (w + 1) (by omega) m c sk hi (wu_Pm hP)
        refine ⟨m', c', sk', hi', k1, fun post h => br_f c1 (br_c (fun _ => ?_) (fun _ => nm_r (nI_1 w) (k2 post h))), fun post h => br_f c1 ?_⟩
        · refine wu_xhit (od := od) (by omega) g1 g3 g4 g5 g7 g8 g9 ha hs1 hs hob (fun hn => absurd hn hk) (fun _ => ?_)
          exact br_t rfl (nm_r (nI_1 w) (k2 post h))
        · refine wu_yhit (by omega) hrun g1 g2 g4 g7 g8 g9 ha (fun hn => absurd hn hk) (fun _ => ?_)
          exact br_t rfl (nm_r (nI_1 w) (k3 post h))
    · obtain ⟨m', c', sk', hi', k1, k2, k3⟩ := ih (w + 1) (by omega) m c sk hi (wu_Pm hP)
      have hb := wu_bit0 (m := left) (by omega : w < 32) (fun h => hrun (m1 w (by omega) h))
      exact ⟨m', c', sk', hi', k1, fun post h => br_f c1 (br_f hb (nm_r (nI_1 w) (k2 post h))), fun post h => br_f c1 (wu_yhit0 (by omega) hrun (br_t rfl (nm_r (nI_1 w) (k3 post h))))⟩
/-! its end -/
theorem wu_xt0 {x1 x2 x3 x4 m c : Int32} {post : Int32 → SX → Prop} (hm : m = 0) (h : post c (bl, st, lo, ru, ac, sc, me, on, pa, fi, la, ki, sk, hi, bS, bZ, bW, bM, kM, kA, kN, kB, kF, ob)) : wX_finish_47 post x1 x2 x3 x4 bl st lo ru ac sc 1 m c (nI 8) me on pa fi la ki sk hi bS bZ bW bM kM kA kN kB kF ob :=
  br_t (nI_le (a := 8) (b := 8) (by omega) (by decide)) (br_t hm h)
theorem wu_xt1 {a s t : Nat} {x3 x4 m c : Int32} {post : Int32 → SX → Prop} (ha : a + s ≤ 40) (hs : s ≤ 4) (ht : t < 2 ^ 31) (hm : ¬ m = 0)
    (h : post c (bl, st, lo, ru, ac, nI (t + 1), me, on, pa, fi, la, ki, sk, hi, bS, bZ, bW, bM, upd kM (t % 8) m, upd kA (t % 8) (nI a), upd kN (t % 8) ac, upd kB (t % 8) (wu_vx ob s 0), upd kF (t % 8) (wu_vx (fun j => me (a + j)) s 0), ob)) :
    wX_finish_47 post (nI a) (nI s) x3 x4 bl st lo ru ac (nI t) 1 m c (nI 8) me on pa fi la ki sk hi bS bZ bW bM kM kA kN kB kF ob := by
  have hcell : nI t &&& 7 = nI (t % 8) := pk_andN (by omega) 3 (by decide)
  have hin : vp_in (nI (t % 8)) 8 := vp_in_nI (by omega) (by decide)
  have hc : (nI (t % 8)).toNatClampNeg = t % 8 := nI_clamp (by omega)
  refine br_t (nI_le (a := 8) (b := 8) (by omega) (by decide)) (br_f hm (nm_r hcell (nm_r (nI_1 t) ⟨hin, nm_r (by rw [hc]) ⟨hin, nm_r (by rw [hc]) ⟨hin, nm_r (by rw [hc]) ?_⟩⟩⟩)))
  refine wu_xo hs ⟨hin, nm_r (by rw [hc]) ?_⟩
  exact wu_xv ha ⟨hin, nm_r (by rw [hc]) h⟩
theorem wu_yt0 {x1 x2 x3 m : Int32} {post : Int32 → SY → Prop} (hm : m = 0) (h : post m (ac, sc, kp, me, od, on, fi, le, ki, pa, sk, hi, mM, mA, mN, mB, mF)) : wY_access_86 post x1 x2 x3 ac sc kp 1 m (nI 8) me od on fi le ki pa sk hi mM mA mN mB mF :=
  br_t (nI_le (a := 8) (b := 8) (by omega) (by decide)) (br_t hm h)
theorem wu_yt1 {a s n : Nat} {x3 m : Int32} {post : Int32 → SY → Prop} (ha : a + s ≤ 40) (hkp : kp = nI n) (hn : n ≤ 8) (hm : ¬ m = 0)
    (h : post m (ac, sc + 1, nI (if n < 8 then n + 1 else n), me, od, on, fi, le, ki, pa, sk, hi, upd (wu_sf mM 0) 0 m, upd (wu_sf mA 0) 0 (nI a), upd (wu_sf mN 0) 0 ac, upd (wu_sf mB 0) 0 (wu_vy (fun j => od (a + j)) s), upd (wu_sf mF 0) 0 (wu_vy (fun j => me (a + j)) s))) :
    wY_access_86 post (nI a) (nI s) x3 ac sc kp 1 m (nI 8) me od on fi le ki pa sk hi mM mA mN mB mF :=
  br_t (nI_le (a := 8) (b := 8) (by omega) (by decide)) (br_f hm (wu_yk ha hkp hn h))
def wu_gs (u : SX) : Int32 := u.2.2.2.2.2.1
def wu_gm (v : SY) : Nat → Int32 := v.2.2.2.1
theorem wu_fin21 {B a s : Nat} {wr : Int32} (hr : wu_rng on fi la le ki) (hS : wu_stk B sc kp kM kA kN kB kF mM mA mN mB mF) (hL : wu_ld on pa fi la ki bl st ru bS bZ bW bM) (hB : B ≤ 20000) (ha : a + s ≤ 40) (hs : s = 1 ∨ s = 2 ∨ s = 4) (hob : ∀ j, j < s → ob j = od (a + j)) :
    ∃ (m c : Int32) (u' : SX) (v' : SY), wu_R (B + 1) u' v' ∧ c = nI (wu_cnt m 8) ∧ wu_gs u' = (if m = 0 then sc else sc + 1) ∧ wu_gm v' = me ∧
      (∀ post, post c u' → wX_finish_21 post (nI a) (nI s) wr bl st lo ru ac sc me on pa fi la ki sk hi bS bZ bW bM kM kA kN kB kF ob) ∧ (∀ post, post m v' → ∃ n, wY_access_86 post (nI a) (nI s) wr ac sc kp n 0 0 me od on fi le ki pa sk hi mM mA mN mB mF) := by
  have hs1 : 1 ≤ s := by omega
  have hs4 : s ≤ 4 := by omega
  obtain ⟨way, hway⟩ : ∃ way : Int32, (wr = 0 ∧ way = 1) ∨ (¬ wr = 0 ∧ way = 2) := by
    by_cases e : wr = 0
    · exact ⟨1, Or.inl ⟨e, rfl⟩⟩
    · exact ⟨2, Or.inr ⟨e, rfl⟩⟩
  obtain ⟨left, m1, m2, m3⟩ := wu_sus (lo := lo) (ac := ac) (sc := sc) (me := me) (sk := sk) (hi := hi) (kM := kM) (kA := kA) (kN := kN) (kB := kB) (kF := kF) (ob := ob) (way := way) hL ha
  obtain ⟨m, c, sk', hi', hP, hX, hY⟩ := wu_loop (bl := bl) (st := st) (lo := lo) (ru := ru) (ac := ac) (sc := sc) (kp := kp) (me := me) (bS := bS) (bZ := bZ) (bW := bW) (bM := bM) (kM := kM) (kA := kA) (kN := kN) (kB := kB) (kF := kF) (mM := mM) (mA := mA) (mN := mN) (mB := mB) (mF := mF) (wr := wr) hr ha hs1 hs4 hob hway m1 m2 8 0 rfl 0 0 sk hi wu_P0
  have hXX : ∀ post, wX_finish_47 post (nI a) (nI s) wr left bl st lo ru ac sc 1 m c (nI 8) me on pa fi la ki sk' hi' bS bZ bW bM kM kA kN kB kF ob → wX_finish_21 post (nI a) (nI s) wr bl st lo ru ac sc me on pa fi la ki sk hi bS bZ bW bM kM kA kN kB kF ob := by
    intro post h
    unfold wX_finish_21
    rcases hway with ⟨e, rfl⟩ | ⟨e, rfl⟩
    · refine br_t e ?_
      unfold wX_finish_33
      exact m3 _ ⟨9, hX post h⟩
    · refine br_f e ?_
      unfold wX_finish_33
      exact m3 _ ⟨9, hX post h⟩
  obtain ⟨t, t1, rfl, rfl, r1, r2, r3, r4, r5⟩ := hS
  by_cases hm : m = 0
  · refine ⟨m, c, (bl, st, lo, ru, ac, nI t, me, on, pa, fi, la, ki, sk', hi', bS, bZ, bW, bM, kM, kA, kN, kB, kF, ob), (ac, nI t, nI (wu_n8 t), me, od, on, fi, le, ki, pa, sk', hi', mM, mA, mN, mB, mF), wu_mk ⟨hr, ⟨t, by omega, rfl, rfl, r1, r2, r3, r4, r5⟩, fun _ => hL⟩, hP.2, ?_, rfl, fun post hp => hXX post (wu_xt0 hm hp), fun post hp => ⟨9, hY post (wu_yt0 hm hp)⟩⟩
    rw [if_pos hm]
    rfl
  · refine ⟨m, c, (bl, st, lo, ru, ac, nI (t + 1), me, on, pa, fi, la, ki, sk', hi', bS, bZ, bW, bM, upd kM (t % 8) m, upd kA (t % 8) (nI a), upd kN (t % 8) ac, upd kB (t % 8) (wu_vx ob s 0), upd kF (t % 8) (wu_vx (fun j => me (a + j)) s 0), ob),
      (ac, nI (t + 1), nI (wu_n8 (t + 1)), me, od, on, fi, le, ki, pa, sk', hi', upd (wu_sf mM 0) 0 m, upd (wu_sf mA 0) 0 (nI a), upd (wu_sf mN 0) 0 ac, upd (wu_sf mB 0) 0 (wu_vy (fun j => od (a + j)) s), upd (wu_sf mF 0) 0 (wu_vy (fun j => me (a + j)) s)),
      wu_mk ⟨hr, ⟨t + 1, by omega, rfl, rfl, wu_rg_s rfl r1, wu_rg_s rfl r2, wu_rg_s rfl r3, wu_rg_s ?_ r4, wu_rg_s (wu_v hs) r5⟩, fun _ => hL⟩, hP.2, ?_, rfl, fun post hp => hXX post (wu_xt1 ha hs4 (by omega) hm hp), fun post hp => ⟨9, hY post (wu_yt1 ha rfl (wu_n8_le t) hm ?_)⟩⟩
    · rw [← wu_v hs]
      exact wu_vx_c s 0 hob
    · rw [if_neg hm]
      exact (nI_1 t).symm
    · rw [wu_n8_s, nI_1]
      exact hp
theorem wu_fin {B a s : Nat} {wr : Int32} (h : wu_rel B bl st lo ru sc kp on pa fi la le ki bS bZ bW bM kM kA kN kB kF mM mA mN mB mF) (hB : B ≤ 20000) (ha : a + s ≤ 40) (hs : s = 1 ∨ s = 2 ∨ s = 4) (hob : ∀ j, j < s → ob j = od (a + j)) :
    ∃ (m c : Int32) (u' : SX) (v' : SY), wu_R (B + 1) u' v' ∧ c = nI (wu_cnt m 8) ∧ wu_gs u' = (if m = 0 then sc else sc + 1) ∧ wu_gm v' = me ∧
      (∀ post, post c u' → wpX_finish post (bl, st, lo, ru, ac, sc, me, on, pa, fi, la, ki, sk, hi, bS, bZ, bW, bM, kM, kA, kN, kB, kF, ob) (nI a) (nI s) wr) ∧ (∀ post, post m v' → ∃ n, wY_access_86 post (nI a) (nI s) wr (ac + 1) sc kp n 0 0 me od on fi le ki pa sk hi mM mA mN mB mF) := by
  obtain ⟨hr, hS, hL⟩ := h
  by_cases hlo : lo = 0
  · obtain ⟨bl1, st1, ru1, bS1, bZ1, bW1, bM1, hld, hpost⟩ := wu_lr (bl := bl) (st := st) (lo := lo) (ru := ru) (ac := ac + 1) (sc := sc) (me := me) (pa := pa) (sk := sk) (hi := hi) (bS := bS) (bZ := bZ) (bW := bW) (bM := bM) (kM := kM) (kA := kA) (kN := kN) (kB := kB) (kF := kF) (ob := ob) hr
    obtain ⟨m, c, u', v', k1, k2, k3, k4, k5, k6⟩ := wu_fin21 (lo := 1) (ac := ac + 1) (me := me) (sk := sk) (hi := hi) (wr := wr) hr hS hld hB ha hs hob
    refine ⟨m, c, u', v', k1, k2, k3, k4, fun post hp => ?_, k6⟩
    unfold wpX_finish
    exact nm_e (br_t hlo (hpost _ (k5 post hp)))
  · obtain ⟨m, c, u', v', k1, k2, k3, k4, k5, k6⟩ := wu_fin21 (lo := lo) (ac := ac + 1) (me := me) (sk := sk) (hi := hi) (wr := wr) hr hS (hL hlo) hB ha hs hob
    refine ⟨m, c, u', v', k1, k2, k3, k4, fun post hp => ?_, k6⟩
    unfold wpX_finish
    exact nm_e (br_f hlo (k5 post hp))
theorem wu_read {B a s : Nat} (h : wu_rel B bl st lo ru sc kp on pa fi la le ki bS bZ bW bM kM kA kN kB kF mM mA mN mB mF) (hB : B ≤ 20000) (ha : a + s ≤ 40) (hs : s = 1 ∨ s = 2 ∨ s = 4) :
    ∃ (m c : Int32) (u' : SX) (v' : SY), wu_R (B + 1) u' v' ∧ c = nI (wu_cnt m 8) ∧ wu_gs u' = (if m = 0 then sc else sc + 1) ∧ wu_gm v' = me ∧
      (∀ post, post c u' → wpX_finish post (bl, st, lo, ru, ac, sc, me, on, pa, fi, la, ki, sk, hi, bS, bZ, bW, bM, kM, kA, kN, kB, kF, wu_cp me ob a s) (nI a) (nI s) 0) ∧ (∀ post, post m v' → wpY_access post (ac, sc, kp, me, od, on, fi, le, ki, pa, sk, hi, mM, mA, mN, mB, mF) (nI a) (nI s) 0 0) := by
  obtain ⟨m, c, u', v', k1, k2, k3, k4, k5, k6⟩ := wu_fin (ac := ac) (me := me) (sk := sk) (hi := hi) (ob := wu_cp me ob a s) (od := wu_cp me od 0 40) (wr := 0) h hB ha hs (fun j hj => by rw [wu_cp_i hj, wu_cp_i (by omega), Nat.zero_add])
  exact ⟨m, c, u', v', k1, k2, k3, k4, k5, fun post hp => wu_yar (by omega) (k6 post hp)⟩
theorem wu_write {B a s : Nat} {v : Int32} (h : wu_rel B bl st lo ru sc kp on pa fi la le ki bS bZ bW bM kM kA kN kB kF mM mA mN mB mF) (hB : B ≤ 20000) (ha : a + s ≤ 40) (hs : s = 1 ∨ s = 2 ∨ s = 4) :
    ∃ (m c : Int32) (u' : SX) (v' : SY), wu_R (B + 1) u' v' ∧ c = nI (wu_cnt m 8) ∧
      (∀ post, post c u' → wpX_finish post (bl, st, lo, ru, ac, sc, wu_wm me a v s, on, pa, fi, la, ki, sk, hi, bS, bZ, bW, bM, kM, kA, kN, kB, kF, wu_cp me ob a s) (nI a) (nI s) 1) ∧ (∀ post, post m v' → wpY_access post (ac, sc, kp, me, od, on, fi, le, ki, pa, sk, hi, mM, mA, mN, mB, mF) (nI a) (nI s) 1 v) := by
  obtain ⟨m, c, u', v', k1, k2, k3, k4, k5, k6⟩ := wu_fin (ac := ac) (me := wu_wm me a v s) (sk := sk) (hi := hi) (ob := wu_cp me ob a s) (od := wu_cp me od 0 40) (wr := 1) h hB ha hs (fun j hj => by rw [wu_cp_i hj, wu_cp_i (by omega), Nat.zero_add])
  exact ⟨m, c, u', v', k1, k2, k5, fun post hp => wu_yaw ha (k6 post hp)⟩
end
end
section
/-! watched and sweep, in lockstep -/
section
variable {bl st lo ru ac sc kp : Int32} {me on pa fi la ki sk hi bS bZ bW bM kM kA kN kB kF ob od le mM mA mN mB mF : Nat → Int32}
theorem wu_yin_any {w : Nat} {x : Int32} {post : Int32 → Prop} (hw : w < 8) (h1 : post 1) (h0 : post 0) : wpY_inRange post (ac, sc, kp, me, od, on, fi, le, ki, pa, sk, hi, mM, mA, mN, mB, mF) (nI w) x := by
  have hin : vp_in (nI w) 8 := vp_in_nI hw (by decide)
  unfold wpY_inRange
  exact ⟨hin, br_c (fun _ => h0) (fun _ => ⟨hin, hin, br_c (fun _ => h0) (fun _ => h1)⟩)⟩
theorem wu_w15 {x : Nat} (hr : wu_rng on fi la le ki) (hx : x < 40) : ∀ d w, w + d = 8 → ∀ x3 : Int32, (x3 = 0 ∨ x3 = 1) → ∃ y3 : Int32, (y3 = 0 ∨ y3 = 1) ∧
    (∀ post J x1, wX_watched_15 post J x1 (nI x) bl st lo ru ac sc me on pa fi la ki sk hi bS bZ bW bM kM kA kN kB kF ob 1 y3 (nI 8) → wX_watched_15 post J x1 (nI x) bl st lo ru ac sc me on pa fi la ki sk hi bS bZ bW bM kM kA kN kB kF ob (d + 1) x3 (nI w)) ∧
    (∀ post J x1, wY_watched_15 post J x1 (nI x) ac sc kp me od on fi le ki pa sk hi mM mA mN mB mF 1 y3 (nI 8) → wY_watched_15 post J x1 (nI x) ac sc kp me od on fi le ki pa sk hi mM mA mN mB mF (d + 1) x3 (nI w)) := by
  intro d
  induction d with
  | zero =>
    intro w hw x3 h3
    have e : w = 8 := by omega
    subst e
    exact ⟨x3, h3, fun post J x1 h => h, fun post J x1 h => h⟩
  | succ d ih =>
    intro w hw x3 h3
    have c1 : ¬ 8 ≤ nI w := nI_ge (b := 8) (by omega) (by decide)
    have hc : (nI w).toNatClampNeg = w := nI_clamp (by omega)
    have hin : vp_in (nI w) 8 := vp_in_nI (by omega) (by decide)
    have one : ¬ (1 : Int32) = 0 := by decide
    rcases h3 with rfl | rfl
    · by_cases e1 : on w = 0
      · have e1' : on (nI w).toNatClampNeg = 0 := by rw [hc]; exact e1
        obtain ⟨y3, k0, k1, k2⟩ := ih (w + 1) (by omega) 0 (Or.inl rfl)
        exact ⟨y3, k0, fun post J x1 h => br_f c1 (br_t rfl ⟨hin, br_t e1' (nm_r (nI_1 w) (k1 post J x1 h))⟩), fun post J x1 h => br_f c1 ⟨hin, br_t e1' (nm_r (nI_1 w) (k2 post J x1 h))⟩⟩
      · have e1' : ¬ on (nI w).toNatClampNeg = 0 := by rw [hc]; exact e1
        by_cases e2 : pa w = 0
        · have e2' : pa (nI w).toNatClampNeg = 0 := by rw [hc]; exact e2
          obtain ⟨f, l, q, g1, g2, g3, g4, g5, g6, g7, g8, g9⟩ := hr w (by omega) e1
          have hfi' : fi (nI w).toNatClampNeg = nI f := by rw [hc]; exact g1
          have hla' : la (nI w).toNatClampNeg = nI (f + l - 1) := by rw [hc]; exact g3
          by_cases e3 : f ≤ x ∧ x < f + l
          · obtain ⟨y3, k0, k1, k2⟩ := ih (w + 1) (by omega) 1 (Or.inr rfl)
            have o1 : ¬ nI x < fi (nI w).toNatClampNeg := by rw [hfi']; exact nI_nlt e3.1 (by omega)
            have o2 : ¬ la (nI w).toNatClampNeg < nI x := by rw [hla']; exact nI_nlt (by omega) (by omega)
            refine ⟨y3, k0, fun post J x1 h => br_f c1 (br_t rfl ⟨hin, br_f e1' ⟨hin, br_t e2' ⟨hin, br_f o1 ⟨hin, br_f o2 (nm_r (nI_1 w) (k1 post J x1 h))⟩⟩⟩⟩), fun post J x1 h => br_f c1 ⟨hin, br_f e1' ⟨hin, br_t e2' ?_⟩⟩⟩
            exact wu_yin (by omega) g1 g2 g7 (by omega) (fun _ => br_f one (nm_r (nI_1 w) (k2 post J x1 h))) (fun hn => absurd e3 hn)
          · obtain ⟨y3, k0, k1, k2⟩ := ih (w + 1) (by omega) 0 (Or.inl rfl)
            refine ⟨y3, k0, fun post J x1 h => br_f c1 (br_t rfl ⟨hin, br_f e1' ⟨hin, br_t e2' ⟨hin, br_c (fun _ => nm_r (nI_1 w) (k1 post J x1 h)) (fun o1 => ⟨hin, br_c (fun _ => nm_r (nI_1 w) (k1 post J x1 h)) (fun o2 => ?_)⟩)⟩⟩⟩), fun post J x1 h => br_f c1 ⟨hin, br_f e1' ⟨hin, br_t e2' ?_⟩⟩⟩
            · exfalso
              rw [hfi', nI_ltI (by omega) (by omega)] at o1
              rw [hla', nI_ltI (by omega) (by omega)] at o2
              omega
            · exact wu_yin (by omega) g1 g2 g7 (by omega) (fun hn => absurd hn e3) (fun _ => br_t rfl (nm_r (nI_1 w) (k2 post J x1 h)))
        · have e2' : ¬ pa (nI w).toNatClampNeg = 0 := by rw [hc]; exact e2
          obtain ⟨y3, k0, k1, k2⟩ := ih (w + 1) (by omega) 0 (Or.inl rfl)
          exact ⟨y3, k0, fun post J x1 h => br_f c1 (br_t rfl ⟨hin, br_f e1' ⟨hin, br_f e2' (nm_r (nI_1 w) (k1 post J x1 h))⟩⟩), fun post J x1 h => br_f c1 ⟨hin, br_f e1' ⟨hin, br_f e2' (nm_r (nI_1 w) (k2 post J x1 h))⟩⟩⟩
    · obtain ⟨y3, k0, k1, k2⟩ := ih (w + 1) (by omega) 1 (Or.inr rfl)
      refine ⟨y3, k0, fun post J x1 h => br_f c1 (br_f one (nm_r (nI_1 w) (k1 post J x1 h))), fun post J x1 h => br_f c1 ⟨hin, br_c (fun _ => nm_r (nI_1 w) (k2 post J x1 h)) (fun _ => ⟨hin, br_c (fun _ => ?_) (fun _ => nm_r (nI_1 w) (k2 post J x1 h))⟩)⟩⟩
      exact wu_yin_any (by omega) (br_f one (nm_r (nI_1 w) (k2 post J x1 h))) (br_t rfl (nm_r (nI_1 w) (k2 post J x1 h)))
theorem wu_w4 (hr : wu_rng on fi la le ki) : ∀ d x, x + d = 40 → ∀ x1 : Int32, ∃ r : Int32, (∀ post : Int32 → Prop, post r → wX_watched_4 post bl st lo ru ac sc me on pa fi la ki sk hi bS bZ bW bM kM kA kN kB kF ob (d + 1) x1 (nI x)) ∧ (∀ post : Int32 → Prop, post r → wY_watched_4 post ac sc kp me od on fi le ki pa sk hi mM mA mN mB mF (d + 1) x1 (nI x)) := by
  intro d
  induction d with
  | zero =>
    intro x hx x1
    have e : x = 40 := by omega
    subst e
    have c : (40 : Int32) ≤ nI 40 := nI_le (a := 40) (b := 40) (by omega) (by decide)
    exact ⟨x1, fun post h => br_t c h, fun post h => br_t c h⟩
  | succ d ih =>
    intro x hx x1
    have c1 : ¬ 40 ≤ nI x := nI_ge (b := 40) (by omega) (by decide)
    have c8 : (8 : Int32) ≤ nI 8 := nI_le (a := 8) (b := 8) (by omega) (by decide)
    have one : ¬ (1 : Int32) = 0 := by decide
    obtain ⟨y3, k0, k1, k2⟩ := wu_w15 (bl := bl) (st := st) (lo := lo) (ru := ru) (ac := ac) (sc := sc) (kp := kp) (me := me) (pa := pa) (sk := sk) (hi := hi) (bS := bS) (bZ := bZ) (bW := bW) (bM := bM) (kM := kM) (kA := kA) (kN := kN) (kB := kB) (kF := kF) (ob := ob) (od := od) (mM := mM) (mA := mA) (mN := mN) (mB := mB) (mF := mF) (x := x) hr (by omega) 8 0 rfl 0 (Or.inl rfl)
    rcases k0 with rfl | rfl
    · obtain ⟨r, h1, h2⟩ := ih (x + 1) (by omega) x1
      refine ⟨r, fun post h => br_f c1 ⟨9, k1 post _ x1 ?_⟩, fun post h => br_f c1 ⟨9, k2 post _ x1 ?_⟩⟩
      · exact br_t c8 (br_t rfl (nm_r (Int32.add_zero x1) (nm_r (nI_1 x) (h1 post h))))
      · exact br_t c8 (br_t rfl (nm_r (nI_1 x) (h2 post h)))
    · obtain ⟨r, h1, h2⟩ := ih (x + 1) (by omega) (x1 + 1)
      refine ⟨r, fun post h => br_f c1 ⟨9, k1 post _ x1 ?_⟩, fun post h => br_f c1 ⟨9, k2 post _ x1 ?_⟩⟩
      · exact br_t c8 (br_f one (nm_e (nm_r (nI_1 x) (h1 post h))))
      · exact br_t c8 (br_f one (nm_e (nm_r (nI_1 x) (h2 post h))))
/-! sweep -/
def wu_XS (post : Int32 → SX → Prop) (x2 x3 : Int32) (n : Nat) (x4 : Int32) (u : SX) : Prop := match u with
  | (bl, st, lo, ru, ac, sc, me, on, pa, fi, la, ki, sk, hi, bS, bZ, bW, bM, kM, kA, kN, kB, kF, ob) => wX_sweep_25 post x2 x3 n x4 bl st lo ru ac sc me on pa fi la ki sk hi bS bZ bW bM kM kA kN kB kF ob
def wu_YS (post : Int32 → SY → Prop) (x2 : Int32) (n : Nat) (x3 x4 : Int32) (v : SY) : Prop := match v with
  | (ac, sc, kp, me, od, on, fi, le, ki, pa, sk, hi, mM, mA, mN, mB, mF) => wY_sweep_22 post x2 n x3 x4 ac sc kp me od on fi le ki pa sk hi mM mA mN mB mF
theorem wu_XSk {post : Int32 → SX → Prop} {x2 x3 x4 : Int32} {n a : Nat} {u : SX} (h : wu_XS post x2 x3 n (nI (a + 2)) u) (e : x4 = nI a) : (match u with | (bl, st, lo, ru, ac, sc, me, on, pa, fi, la, ki, sk, hi, bS, bZ, bW, bM, kM, kA, kN, kB, kF, ob) => (∀ x : Int32, x = x4 + 2 → wX_sweep_25 post x2 x3 n x bl st lo ru ac sc me on pa fi la ki sk hi bS bZ bW bM kM kA kN kB kF ob)) := by
  obtain ⟨bl, st, lo, ru, ac, sc, me, on, pa, fi, la, ki, sk, hi, bS, bZ, bW, bM, kM, kA, kN, kB, kF, ob⟩ := u
  subst e
  exact nm_r (nI_add a 2) h
theorem wu_YSk {post : Int32 → SY → Prop} {x2 x3 x3' x4 m : Int32} {n a : Nat} {v : SY} (h : wu_YS post x2 n x3' (nI (a + 2)) v) (e : x4 = nI a) (h3 : x3' = if m = 0 then x3 else x3 + 1) :
    (match v with | (ac, sc, kp, me, od, on, fi, le, ki, pa, sk, hi, mM, mA, mN, mB, mF) => ((m = 0 → (∀ x : Int32, x = x4 + 2 → wY_sweep_22 post x2 n x3 x ac sc kp me od on fi le ki pa sk hi mM mA mN mB mF)) ∧ (¬ m = 0 → (∀ y : Int32, y = x3 + 1 → ∀ x : Int32, x = x4 + 2 → wY_sweep_22 post x2 n y x ac sc kp me od on fi le ki pa sk hi mM mA mN mB mF)))) := by
  obtain ⟨ac, sc, kp, me, od, on, fi, le, ki, pa, sk, hi, mM, mA, mN, mB, mF⟩ := v
  subst e
  by_cases hm : m = 0
  · rw [if_pos hm] at h3
    subst h3
    exact br_t hm (nm_r (nI_add a 2) h)
  · rw [if_neg hm] at h3
    subst h3
    exact br_f hm (nm_e (nm_r (nI_add a 2) h))
theorem wu_sw1 {B a n t : Nat} {u : SX} {v : SY} (hB : B ≤ 20000) (ha : a < 40) (ht : t < 40) (hat : a ≤ t) (h : wu_R B u v) : ∃ (m : Int32) (u' : SX) (v' : SY), wu_R (B + 1) u' v' ∧ wu_gs u' = (if m = 0 then wu_gs u else wu_gs u + 1) ∧
    (∀ post x3, wu_XS post (nI t) x3 n (nI (a + 2)) u' → wu_XS post (nI t) x3 (n + 1) (nI a) u) ∧
    (∀ post x3 x3', x3' = (if m = 0 then x3 else x3 + 1) → wu_YS post (nI t) n x3' (nI (a + 2)) v' → wu_YS post (nI t) (n + 1) x3 (nI a) v) := by
  refine wu_el (P := fun u v => ∃ (m : Int32) (u' : SX) (v' : SY), wu_R (B + 1) u' v' ∧ wu_gs u' = (if m = 0 then wu_gs u else wu_gs u + 1) ∧
    (∀ post x3, wu_XS post (nI t) x3 n (nI (a + 2)) u' → wu_XS post (nI t) x3 (n + 1) (nI a) u) ∧
    (∀ post x3 x3', x3' = (if m = 0 then x3 else x3 + 1) → wu_YS post (nI t) n x3' (nI (a + 2)) v' → wu_YS post (nI t) (n + 1) x3 (nI a) v)) ?_ h
  intro bl st lo ru ac sc kp me on pa fi la ki sk hi bS bZ bW bM kM kA kN kB kF ob od le mM mA mN mB mF h
  obtain ⟨m, c, u', v', k1, k2, k3, k4, k5, k6⟩ := wu_read (ac := ac) (me := me) (sk := sk) (hi := hi) (ob := ob) (od := od) (s := 1) h hB (a := a) (by omega) (Or.inl rfl)
  have c1 : ¬ nI t < nI a := nI_nlt hat (by omega)
  refine ⟨m, u', v', k1, k3, fun post x3 hX => ?_, fun post x3 x3' e hY => ?_⟩
  · refine br_f c1 ?_
    refine wu_xr (s := 1) (by omega) (by omega) ?_
    exact k5 _ (wu_XSk hX rfl)
  · refine br_f c1 ?_
    exact k6 _ (wu_YSk hY rfl e)
theorem wu_swx {a t n : Nat} {sc0 x3 : Int32} {u : SX} {v : SY} (hat : t < a) (ha : a < 100) (hg : wu_gs u = sc0 + x3) : (∀ post : Int32 → SX → Prop, post x3 u → wu_XS post (nI t) sc0 (n + 1) (nI a) u) ∧ (∀ post : Int32 → SY → Prop, post x3 v → wu_YS post (nI t) (n + 1) x3 (nI a) v) := by
  obtain ⟨bl, st, lo, ru, ac, sc, me, on, pa, fi, la, ki, sk, hi, bS, bZ, bW, bM, kM, kA, kN, kB, kF, ob⟩ := u
  obtain ⟨ac', sc', kp, me', od, on', fi', le, ki', pa', sk', hi', mM, mA, mN, mB, mF⟩ := v
  have c1 : nI t < nI a := nI_lt hat (by omega)
  have e : sc - sc0 = x3 := by
    have hg' : sc = sc0 + x3 := hg
    rw [hg', Int32.add_comm, Int32.add_sub_cancel]
  refine ⟨fun post hp => br_t c1 ?_, fun post hp => br_t c1 hp⟩
  rw [e]
  exact hp
theorem wu_sw {t : Nat} {sc0 : Int32} (ht : t < 40) : ∀ d a B x3 (u : SX) (v : SY), t < a + d → a < 42 → B + (t + 2 - a) / 2 ≤ 20000 → wu_R B u v → wu_gs u = sc0 + x3 → ∃ (r : Int32) (u' : SX) (v' : SY), wu_R (B + (t + 2 - a) / 2) u' v' ∧
    (∀ post : Int32 → SX → Prop, post r u' → wu_XS post (nI t) sc0 (d + 1) (nI a) u) ∧ (∀ post : Int32 → SY → Prop, post r v' → wu_YS post (nI t) (d + 1) x3 (nI a) v) := by
  intro d
  induction d with
  | zero =>
    intro a B x3 u v hd ha hB h hg
    have g := wu_swx (n := 0) (v := v) (by omega : t < a) (by omega) hg
    exact ⟨x3, u, v, wu_R_up (by omega) h, g.1, g.2⟩
  | succ d ih =>
    intro a B x3 u v hd ha hB h hg
    by_cases hat : t < a
    · have g := wu_swx (n := d + 1) (v := v) hat (by omega) hg
      exact ⟨x3, u, v, wu_R_up (by omega) h, g.1, g.2⟩
    · obtain ⟨m, u1, v1, k1, k2, k3, k4⟩ := wu_sw1 (n := d + 1) (a := a) (t := t) (by omega) (by omega) ht (by omega) h
      obtain ⟨r, u', v', j1, j2, j3⟩ := ih (a + 2) (B + 1) (if m = 0 then x3 else x3 + 1) u1 v1 (by omega) (by omega) (by omega) k1 (by
        rw [k2, hg]
        by_cases hm : m = 0
        · rw [if_pos hm, if_pos hm]
        · rw [if_neg hm, if_neg hm, Int32.add_assoc])
      refine ⟨r, u', v', ?_, fun post hp => k3 post sc0 (j2 post hp), fun post hp => k4 post x3 _ rfl (j3 post hp)⟩
      rw [show B + (t + 2 - a) / 2 = B + 1 + (t + 2 - (a + 2)) / 2 by omega]
      exact j1
end
end
section
/-! small helpers for the owed rows -/
section
variable {bl st lo ru ac sc kp : Int32} {me on pa fi la ki sk hi bS bZ bW bM kM kA kN kB kF ob od le mM mA mN mB mF : Nat → Int32}
theorem wu_ix8 (x : Int32) : (x < 0 ∨ nI 8 ≤ x) ∨ ∃ w : Nat, w < 8 ∧ x = nI w := by
  rcases pk_ix x (n := 8) (by decide) with h | h | h
  · exact Or.inl (Or.inl h)
  · exact Or.inl (Or.inr h)
  · exact Or.inr h
theorem wu_n7 {x : Int32} (h : nI 8 ≤ x) : ¬ x ≤ 7 := by
  intro g
  have e := Int32.le_trans h g
  exact absurd e (by decide)
theorem wu_xwb {x : Int32} {post : Int32 → Prop} (hb : x < 0 ∨ nI 8 ≤ x) (h : post 0) : wpX_isWatch post x := by
  unfold wpX_isWatch
  rcases hb with hb | hb
  · exact br_t hb h
  · exact br_c (fun _ => h) (fun _ => br_t hb h)
theorem wu_xwg {w : Nat} {post : Int32 → Prop} (hw : w < 8) (h : post 1) : wpX_isWatch post (nI w) := by
  unfold wpX_isWatch
  exact br_f (nI_pos (by omega)) (br_f (nI_ge (b := 8) hw (by decide)) h)
theorem wu_ybb {x : Int32} {post : Int32 → Prop} (hb : x < 0 ∨ nI 8 ≤ x) (h : post 1) : wpY_bad post (ac, sc, kp, me, od, on, fi, le, ki, pa, sk, hi, mM, mA, mN, mB, mF) x := by
  unfold wpY_bad
  rcases hb with hb | hb
  · exact br_t hb h
  · exact br_c (fun _ => h) (fun _ => br_f (wu_n7 hb) h)
theorem wu_ybg {w : Nat} {post : Int32 → Prop} (hw : w < 8) (h : post 0) : wpY_bad post (ac, sc, kp, me, od, on, fi, le, ki, pa, sk, hi, mM, mA, mN, mB, mF) (nI w) := by
  unfold wpY_bad
  exact br_f (nI_pos (by omega)) (br_t (nI_le (b := 7) (by omega) (by decide)) h)
theorem wu_xrb {x : Int32} {post : Int32 → Prop} (hb : x < 0 ∨ nI 8 ≤ x) (h : post (-1)) : wpX_refused post (bl, st, lo, ru, ac, sc, me, on, pa, fi, la, ki, sk, hi, bS, bZ, bW, bM, kM, kA, kN, kB, kF, ob) x := by
  unfold wpX_refused
  exact wu_xwb hb (br_t rfl h)
theorem wu_xr0 {w : Nat} {post : Int32 → Prop} (hw : w < 8) (e : on w = 0) (h : post (-2)) : wpX_refused post (bl, st, lo, ru, ac, sc, me, on, pa, fi, la, ki, sk, hi, bS, bZ, bW, bM, kM, kA, kN, kB, kF, ob) (nI w) := by
  have hc : (nI w).toNatClampNeg = w := nI_clamp (by omega)
  unfold wpX_refused
  exact wu_xwg hw (br_f (by decide) ⟨vp_in_nI hw (by decide), br_t (by rw [hc]; exact e) h⟩)
theorem wu_xr1 {w : Nat} {post : Int32 → Prop} (hw : w < 8) (e : ¬ on w = 0) (h : post 0) : wpX_refused post (bl, st, lo, ru, ac, sc, me, on, pa, fi, la, ki, sk, hi, bS, bZ, bW, bM, kM, kA, kN, kB, kF, ob) (nI w) := by
  have hc : (nI w).toNatClampNeg = w := nI_clamp (by omega)
  unfold wpX_refused
  exact wu_xwg hw (br_f (by decide) ⟨vp_in_nI hw (by decide), br_f (by rw [hc]; exact e) h⟩)
theorem wu_l1 : ¬ (0 : Int32) ≤ -1 := by decide
theorem wu_l2 : ¬ (0 : Int32) ≤ -2 := by decide
theorem wu_l0 : (0 : Int32) ≤ 0 := by decide
theorem wu_l10 : ¬ (1 : Int32) = 0 := by decide
theorem wu_1to0 {x : Int32} (h : ¬ x < 1) : ¬ x < 0 := fun g => h (Int32.lt_trans g (by decide))
/-- a range that was let in -/
theorem wu_nat {v2 v3 v4 : Int32} (h1 : ¬ v3 < 1) (h2 : v3 ≤ 16) (h3 : ¬ v2 < 0) (h4 : v2 ≤ 40 - v3) (h5 : ¬ v4 < 1) (h6 : v4 ≤ 4) : ∃ f l q : Nat, v2 = nI f ∧ v3 = nI l ∧ v4 = nI q ∧ 1 ≤ l ∧ l ≤ 16 ∧ f + l ≤ 40 ∧ 1 ≤ q ∧ q ≤ 4 := by
  obtain ⟨l, hl, rfl⟩ := nI_of2 (M := 16) (n := 16) (by decide) (wu_1to0 h1) h2
  obtain ⟨q, hq, rfl⟩ := nI_of2 (M := 4) (n := 4) (by decide) (wu_1to0 h5) h6
  obtain ⟨f, hf, rfl⟩ := nI_of h3
  have e : (40 : Int32) - nI l = nI (40 - l) := pk_sub (a := 40) (by omega)
  rw [e, nI_leI hf (by omega)] at h4
  have g1 : ¬ l < 1 := fun g => h1 (nI_lt (b := 1) g (by decide))
  have g5 : ¬ q < 1 := fun g => h5 (nI_lt (b := 1) g (by decide))
  exact ⟨f, l, q, rfl, rfl, rfl, by omega, hl, by omega, by omega, hq⟩
theorem wu_rng_set {w f l q : Nat} {x : Int32} (h : wu_rng on fi la le ki) (h1 : 1 ≤ l) (h2 : l ≤ 16) (h3 : f + l ≤ 40) (h4 : 1 ≤ q) (h5 : q ≤ 4) : wu_rng (upd on w x) (upd fi w (nI f)) (upd la w (nI (f + l - 1))) (upd le w (nI l)) (upd ki w (nI q)) := by
  intro i hi ho
  by_cases e : i = w
  · subst e
    exact ⟨f, l, q, pk_us, pk_us, pk_us, pk_us, h1, h2, h3, h4, h5⟩
  · rw [pk_un e] at ho
    rw [pk_un e, pk_un e, pk_un e, pk_un e]
    exact h i hi ho
theorem wu_rng_clear {w : Nat} {x : Int32} (h : wu_rng on fi la le ki) (hw : ¬ on w = 0) : wu_rng (upd on w x) fi la le ki := by
  intro i hi ho
  by_cases e : i = w
  · subst e
    exact h i hi hw
  · rw [pk_un e] at ho
    exact h i hi ho
/-! the kept stops -/
theorem wu_xkb {x : Int32} {post : Int32 → Prop} (hb : x < 0 ∨ nI 8 ≤ x) (h : post 0) : wpX_isKept post (bl, st, lo, ru, ac, sc, me, on, pa, fi, la, ki, sk, hi, bS, bZ, bW, bM, kM, kA, kN, kB, kF, ob) x := by
  unfold wpX_isKept
  rcases hb with hb | hb
  · exact br_t hb h
  · exact br_c (fun _ => h) (fun _ => br_t hb h)
theorem wu_xk0 {i t : Nat} {post : Int32 → Prop} (hi8 : i < 8) (ht : t ≤ i) (h : post 0) : wpX_isKept post (bl, st, lo, ru, ac, nI t, me, on, pa, fi, la, ki, sk, hi, bS, bZ, bW, bM, kM, kA, kN, kB, kF, ob) (nI i) := by
  unfold wpX_isKept
  exact br_f (nI_pos (by omega)) (br_f (nI_ge (b := 8) hi8 (by decide)) (br_t (nI_le ht (by omega)) h))
theorem wu_xk1 {i t : Nat} {post : Int32 → Prop} (hi8 : i < 8) (ht : i < t) (hb : t < 2 ^ 31) (h : post 1) : wpX_isKept post (bl, st, lo, ru, ac, nI t, me, on, pa, fi, la, ki, sk, hi, bS, bZ, bW, bM, kM, kA, kN, kB, kF, ob) (nI i) := by
  unfold wpX_isKept
  exact br_f (nI_pos (by omega)) (br_f (nI_ge (b := 8) hi8 (by decide)) (br_f (nI_ge ht hb) h))
theorem wu_xcell {i t : Nat} {post : Int32 → Prop} (ht : i < t) (hb : t < 2 ^ 31) (h : post (nI ((t - 1 - i) % 8))) : wpX_cellOf post (bl, st, lo, ru, ac, nI t, me, on, pa, fi, la, ki, sk, hi, bS, bZ, bW, bM, kM, kA, kN, kB, kF, ob) (nI i) := by
  have e : (nI t - 1 - nI i) &&& 7 = nI ((t - 1 - i) % 8) := by
    have e1 : nI t - 1 = nI (t - 1) := pk_sub (b := 1) (by omega)
    rw [e1, pk_sub (by omega)]
    exact pk_andN (by omega) 3 (by decide)
  unfold wpX_cellOf
  show post ((nI t - 1 - nI i) &&& 7)
  rw [e]
  exact h
theorem wu_ykb {x : Int32} {post : Int32 → Prop} (hb : x < 0 ∨ nI 8 ≤ x) (h : post 1) : wpY_noStop post (ac, sc, kp, me, od, on, fi, le, ki, pa, sk, hi, mM, mA, mN, mB, mF) x := by
  unfold wpY_noStop
  rcases hb with hb | hb
  · exact br_t hb h
  · exact br_c (fun _ => h) (fun _ => br_c (fun _ => h) (fun _ => br_f (Int32.not_lt.mpr hb) h))
theorem wu_yk0 {i t : Nat} {post : Int32 → Prop} (hi8 : i < 8) (ht : t ≤ i) (h : post 1) : wpY_noStop post (ac, sc, nI (wu_n8 t), me, od, on, fi, le, ki, pa, sk, hi, mM, mA, mN, mB, mF) (nI i) := by
  have e : wu_n8 t = t := if_pos (by omega)
  unfold wpY_noStop
  exact br_f (nI_pos (by omega)) (br_t (nI_le (by omega) (by omega)) h)
theorem wu_yk1 {i t : Nat} {post : Int32 → Prop} (hi8 : i < 8) (ht : i < t) (h : post 0) : wpY_noStop post (ac, sc, nI (wu_n8 t), me, od, on, fi, le, ki, pa, sk, hi, mM, mA, mN, mB, mF) (nI i) := by
  have e : i < wu_n8 t := by
    unfold wu_n8
    by_cases g : t < 8
    · rw [if_pos g]; exact ht
    · rw [if_neg g]; exact hi8
  have e8 := wu_n8_le t
  unfold wpY_noStop
  exact br_f (nI_pos (by omega)) (br_f (nI_ge e (by omega)) (br_t (nI_lt (b := 8) hi8 (by decide)) h))
end
end
section
/-! what is owed -/
/-- the relation: the shared fields are the same; ranges, the ring of stops, the registers where they are loaded; at most four stops a cell so far -/
def i_Rel (k : Nat) (u : SX) (v : SY) : Prop := wu_R (4 * k) u v
theorem i_up {k : Nat} {u : SX} {v : SY} (h : i_Rel k u v) : i_Rel (k + 5) u v := wu_R_up (by omega) h
theorem wu_z0 : upd (fun _ => 0) 0 0 = (fun _ => (0 : Int32)) := by
  funext j
  by_cases e : j = 0
  · subst e; rfl
  · exact if_neg e
theorem i_vc0 : wpX_init (fun u => wpY_init (fun v => i_Rel 0 u v)) := by
  unfold wpX_init wpY_init
  exact wu_mk ⟨fun w _ h => absurd rfl h, ⟨0, by omega, rfl, rfl, fun i h => absurd h (by omega), fun i h => absurd h (by omega), fun i h => absurd h (by omega), fun i h => absurd h (by omega), fun i h => absurd h (by omega)⟩, fun h => absurd rfl h⟩
theorem i_vc_set {k : Nat} {u : SX} {v : SY} (I : i_Rel k u v) (hk : k + 5 ≤ 2560) (v1 : Int32) (v2 : Int32) (v3 : Int32) (v4 : Int32) : wpX_set (fun r u' => wpY_set (fun r' v' => r' = r ∧ i_Rel (k + 5) u' v') v v1 v2 v3 v4) u v1 v2 v3 v4 := by
  refine wu_el (P := fun u v => wpX_set (fun r u' => wpY_set (fun r' v' => r' = r ∧ i_Rel (k + 5) u' v') v v1 v2 v3 v4) u v1 v2 v3 v4) ?_ I
  intro bl st lo ru ac sc kp me on pa fi la ki sk hi bS bZ bW bM kM kA kN kB kF ob od le mM mA mN mB mF h
  have hup := wu_rel_up (show 4 * k ≤ 4 * (k + 5) by omega) h
  rcases wu_ix8 v1 with hb | ⟨w, hw, rfl⟩
  · have hY : wpY_set (fun r' v' => r' = -1 ∧ i_Rel (k + 5) (bl, st, lo, ru, ac, sc, me, on, pa, fi, la, ki, sk, hi, bS, bZ, bW, bM, kM, kA, kN, kB, kF, ob) v') (ac, sc, kp, me, od, on, fi, le, ki, pa, sk, hi, mM, mA, mN, mB, mF) v1 v2 v3 v4 := by
      unfold wpY_set
      exact wu_ybb hb (br_f wu_l10 ⟨rfl, wu_mk hup⟩)
    unfold wpX_set
    exact wu_xwb hb (br_t rfl hY)
  · have hin : vp_in (nI w) 8 := vp_in_nI hw (by decide)
    have hc : (nI w).toNatClampNeg = w := nI_clamp (by omega)
    unfold wpX_set
    refine wu_xwg hw (br_f wu_l10 ?_)
    by_cases c1 : v3 < 1
    · have hY : wpY_set (fun r' v' => r' = -2 ∧ i_Rel (k + 5) (bl, st, lo, ru, ac, sc, me, on, pa, fi, la, ki, sk, hi, bS, bZ, bW, bM, kM, kA, kN, kB, kF, ob) v') (ac, sc, kp, me, od, on, fi, le, ki, pa, sk, hi, mM, mA, mN, mB, mF) (nI w) v2 v3 v4 := by
        unfold wpY_set
        exact wu_ybg hw (br_t rfl (br_t c1 ⟨rfl, wu_mk hup⟩))
      exact br_t c1 hY
    refine br_f c1 ?_
    by_cases c2 : v3 ≤ 16
    case neg =>
      have hY : wpY_set (fun r' v' => r' = -2 ∧ i_Rel (k + 5) (bl, st, lo, ru, ac, sc, me, on, pa, fi, la, ki, sk, hi, bS, bZ, bW, bM, kM, kA, kN, kB, kF, ob) v') (ac, sc, kp, me, od, on, fi, le, ki, pa, sk, hi, mM, mA, mN, mB, mF) (nI w) v2 v3 v4 := by
        unfold wpY_set
        exact wu_ybg hw (br_t rfl (br_f c1 (br_f c2 ⟨rfl, wu_mk hup⟩)))
      exact br_f c2 hY
    refine br_t c2 ?_
    by_cases c3 : v2 < 0
    · have hY : wpY_set (fun r' v' => r' = -3 ∧ i_Rel (k + 5) (bl, st, lo, ru, ac, sc, me, on, pa, fi, la, ki, sk, hi, bS, bZ, bW, bM, kM, kA, kN, kB, kF, ob) v') (ac, sc, kp, me, od, on, fi, le, ki, pa, sk, hi, mM, mA, mN, mB, mF) (nI w) v2 v3 v4 := by
        unfold wpY_set
        exact wu_ybg hw (br_t rfl (br_f c1 (br_t c2 (br_t c3 ⟨rfl, wu_mk hup⟩))))
      exact br_t c3 hY
    refine br_f c3 ?_
    by_cases c4 : v2 ≤ 40 - v3
    case neg =>
      have hY : wpY_set (fun r' v' => r' = -3 ∧ i_Rel (k + 5) (bl, st, lo, ru, ac, sc, me, on, pa, fi, la, ki, sk, hi, bS, bZ, bW, bM, kM, kA, kN, kB, kF, ob) v') (ac, sc, kp, me, od, on, fi, le, ki, pa, sk, hi, mM, mA, mN, mB, mF) (nI w) v2 v3 v4 := by
        unfold wpY_set
        exact wu_ybg hw (br_t rfl (br_f c1 (br_t c2 (br_f c3 (br_f c4 ⟨rfl, wu_mk hup⟩)))))
      exact br_f c4 hY
    refine br_t c4 ?_
    by_cases c5 : v4 < 1
    · have hY : wpY_set (fun r' v' => r' = -4 ∧ i_Rel (k + 5) (bl, st, lo, ru, ac, sc, me, on, pa, fi, la, ki, sk, hi, bS, bZ, bW, bM, kM, kA, kN, kB, kF, ob) v') (ac, sc, kp, me, od, on, fi, le, ki, pa, sk, hi, mM, mA, mN, mB, mF) (nI w) v2 v3 v4 := by
        unfold wpY_set
        exact wu_ybg hw (br_t rfl (br_f c1 (br_t c2 (br_f c3 (br_t c4 (br_t c5 ⟨rfl, wu_mk hup⟩))))))
      exact br_t c5 hY
    refine br_f c5 ?_
    by_cases c6 : v4 ≤ 4
    case neg =>
      have hY : wpY_set (fun r' v' => r' = -4 ∧ i_Rel (k + 5) (bl, st, lo, ru, ac, sc, me, on, pa, fi, la, ki, sk, hi, bS, bZ, bW, bM, kM, kA, kN, kB, kF, ob) v') (ac, sc, kp, me, od, on, fi, le, ki, pa, sk, hi, mM, mA, mN, mB, mF) (nI w) v2 v3 v4 := by
        unfold wpY_set
        exact wu_ybg hw (br_t rfl (br_f c1 (br_t c2 (br_f c3 (br_t c4 (br_f c5 (br_f c6 ⟨rfl, wu_mk hup⟩)))))))
      exact br_f c6 hY
    refine br_t c6 ⟨hin, ?_⟩
    have key : ∀ z0 : Int32, (∀ post : Int32 → SY → Prop, wY_set_68 post (nI w) v2 v3 v4 z0 ac sc kp me od on fi le ki pa sk hi mM mA mN mB mF → wpY_set post (ac, sc, kp, me, od, on, fi, le, ki, pa, sk, hi, mM, mA, mN, mB, mF) (nI w) v2 v3 v4) → wX_set_67 (fun r u' => wpY_set (fun r' v' => r' = r ∧ i_Rel (k + 5) u' v') (ac, sc, kp, me, od, on, fi, le, ki, pa, sk, hi, mM, mA, mN, mB, mF) (nI w) v2 v3 v4) (nI w) v2 v3 v4 z0 bl st lo ru ac sc me on pa fi la ki sk hi bS bZ bW bM kM kA kN kB kF ob := by
      intro z0 hz
      obtain ⟨f, l, q, rfl, rfl, rfl, n1, n2, n3, n4, n5⟩ := wu_nat c1 c2 c3 c4 c5 c6
      have el : nI f + nI l - 1 = nI (f + l - 1) := by rw [nI_add]; exact pk_sub (b := 1) (by omega)
      have hY : wpY_set (fun r' v' => r' = z0 ∧ i_Rel (k + 5) (bl, st, 0, ru, ac, sc, me, upd on w (vp_nar .boolean 1), upd pa w (vp_nar .boolean 0), upd fi w (nI f), upd la w (nI (f + l - 1)), upd ki w (nI q), upd sk w 0, upd hi w 0, bS, bZ, bW, bM, kM, kA, kN, kB, kF, ob) v') (ac, sc, kp, me, od, on, fi, le, ki, pa, sk, hi, mM, mA, mN, mB, mF) (nI w) (nI f) (nI l) (nI q) := by
        refine hz _ ?_
        unfold wY_set_68
        rw [hc]
        exact ⟨hin, nm_e ⟨hin, nm_e ⟨hin, nm_e ⟨hin, nm_e ⟨hin, nm_e ⟨hin, nm_e ⟨hin, nm_e ⟨rfl, wu_mk ⟨wu_rng_set h.1 n1 n2 n3 n4 n5, hup.2.1, fun g => absurd rfl g⟩⟩⟩⟩⟩⟩⟩⟩⟩
      unfold wX_set_67
      rw [hc, el]
      exact ⟨hin, nm_e ⟨hin, nm_e ⟨hin, nm_e ⟨hin, nm_e ⟨hin, nm_e ⟨hin, nm_e ⟨hin, nm_e hY⟩⟩⟩⟩⟩⟩⟩
    by_cases c7 : on (nI w).toNatClampNeg = 0
    · refine br_t c7 (key 0 (fun post hp => ?_))
      unfold wpY_set
      exact wu_ybg hw (br_t rfl (br_f c1 (br_t c2 (br_f c3 (br_t c4 (br_f c5 (br_t c6 ⟨hin, br_t c7 hp⟩)))))))
    · refine br_f c7 (key 1 (fun post hp => ?_))
      unfold wpY_set
      exact wu_ybg hw (br_t rfl (br_f c1 (br_t c2 (br_f c3 (br_t c4 (br_f c5 (br_t c6 ⟨hin, br_f c7 hp⟩)))))))
theorem i_vc_clear {k : Nat} {u : SX} {v : SY} (I : i_Rel k u v) (hk : k + 5 ≤ 2560) (v1 : Int32) : wpX_clear (fun r u' => wpY_clear (fun r' v' => r' = r ∧ i_Rel (k + 5) u' v') v v1) u v1 := by
  refine wu_el (P := fun u v => wpX_clear (fun r u' => wpY_clear (fun r' v' => r' = r ∧ i_Rel (k + 5) u' v') v v1) u v1) ?_ I
  intro bl st lo ru ac sc kp me on pa fi la ki sk hi bS bZ bW bM kM kA kN kB kF ob od le mM mA mN mB mF h
  have hup := wu_rel_up (show 4 * k ≤ 4 * (k + 5) by omega) h
  rcases wu_ix8 v1 with hb | ⟨w, hw, rfl⟩
  · have hY : wpY_clear (fun r' v' => r' = -1 ∧ i_Rel (k + 5) (bl, st, lo, ru, ac, sc, me, on, pa, fi, la, ki, sk, hi, bS, bZ, bW, bM, kM, kA, kN, kB, kF, ob) v') (ac, sc, kp, me, od, on, fi, le, ki, pa, sk, hi, mM, mA, mN, mB, mF) v1 := by
      unfold wpY_clear
      exact wu_ybb hb (br_f wu_l10 ⟨rfl, wu_mk hup⟩)
    unfold wpX_clear
    exact wu_xrb hb (br_f wu_l1 hY)
  · have hin : vp_in (nI w) 8 := vp_in_nI hw (by decide)
    have hc : (nI w).toNatClampNeg = w := nI_clamp (by omega)
    by_cases c1 : on w = 0
    · have c1' : on (nI w).toNatClampNeg = 0 := by rw [hc]; exact c1
      have hY : wpY_clear (fun r' v' => r' = -2 ∧ i_Rel (k + 5) (bl, st, lo, ru, ac, sc, me, on, pa, fi, la, ki, sk, hi, bS, bZ, bW, bM, kM, kA, kN, kB, kF, ob) v') (ac, sc, kp, me, od, on, fi, le, ki, pa, sk, hi, mM, mA, mN, mB, mF) (nI w) := by
        unfold wpY_clear
        exact wu_ybg hw (br_t rfl ⟨hin, br_t c1' ⟨rfl, wu_mk hup⟩⟩)
      unfold wpX_clear
      exact wu_xr0 hw c1 (br_f wu_l2 hY)
    · have c1' : ¬ on (nI w).toNatClampNeg = 0 := by rw [hc]; exact c1
      have hY : wpY_clear (fun r' v' => r' = hi w ∧ i_Rel (k + 5) (bl, st, 0, ru, ac, sc, me, upd on w (vp_nar .boolean 0), pa, fi, la, ki, sk, hi, bS, bZ, bW, bM, kM, kA, kN, kB, kF, ob) v') (ac, sc, kp, me, od, on, fi, le, ki, pa, sk, hi, mM, mA, mN, mB, mF) (nI w) := by
        unfold wpY_clear
        exact wu_ybg hw (br_t rfl ⟨hin, br_f c1' ⟨hin, nm_r (by rw [hc]) ⟨hin, by rw [hc], wu_mk ⟨wu_rng_clear h.1 c1, hup.2.1, fun g => absurd rfl g⟩⟩⟩⟩)
      unfold wpX_clear
      refine wu_xr1 hw c1 (br_t wu_l0 ⟨hin, nm_r (e' := upd on w (vp_nar .boolean 0)) (by rw [hc]) ⟨hin, ?_⟩⟩)
      rw [hc]
      exact hY
theorem i_vc_pause {k : Nat} {u : SX} {v : SY} (I : i_Rel k u v) (hk : k + 5 ≤ 2560) (v1 : Int32) (v2 : Int32) : wpX_pause (fun r u' => wpY_pause (fun r' v' => r' = r ∧ i_Rel (k + 5) u' v') v v1 v2) u v1 v2 := by
  refine wu_el (P := fun u v => wpX_pause (fun r u' => wpY_pause (fun r' v' => r' = r ∧ i_Rel (k + 5) u' v') v v1 v2) u v1 v2) ?_ I
  intro bl st lo ru ac sc kp me on pa fi la ki sk hi bS bZ bW bM kM kA kN kB kF ob od le mM mA mN mB mF h
  have hup := wu_rel_up (show 4 * k ≤ 4 * (k + 5) by omega) h
  rcases wu_ix8 v1 with hb | ⟨w, hw, rfl⟩
  · have hY : wpY_pause (fun r' v' => r' = -1 ∧ i_Rel (k + 5) (bl, st, lo, ru, ac, sc, me, on, pa, fi, la, ki, sk, hi, bS, bZ, bW, bM, kM, kA, kN, kB, kF, ob) v') (ac, sc, kp, me, od, on, fi, le, ki, pa, sk, hi, mM, mA, mN, mB, mF) v1 v2 := by
      unfold wpY_pause
      exact wu_ybb hb (br_f wu_l10 ⟨rfl, wu_mk hup⟩)
    unfold wpX_pause
    exact wu_xrb hb (br_f wu_l1 hY)
  · have hin : vp_in (nI w) 8 := vp_in_nI hw (by decide)
    have hc : (nI w).toNatClampNeg = w := nI_clamp (by omega)
    by_cases c1 : on w = 0
    · have c1' : on (nI w).toNatClampNeg = 0 := by rw [hc]; exact c1
      have hY : wpY_pause (fun r' v' => r' = -2 ∧ i_Rel (k + 5) (bl, st, lo, ru, ac, sc, me, on, pa, fi, la, ki, sk, hi, bS, bZ, bW, bM, kM, kA, kN, kB, kF, ob) v') (ac, sc, kp, me, od, on, fi, le, ki, pa, sk, hi, mM, mA, mN, mB, mF) (nI w) v2 := by
        unfold wpY_pause
        exact wu_ybg hw (br_t rfl ⟨hin, br_t c1' ⟨rfl, wu_mk hup⟩⟩)
      unfold wpX_pause
      exact wu_xr0 hw c1 (br_f wu_l2 hY)
    · have c1' : ¬ on (nI w).toNatClampNeg = 0 := by rw [hc]; exact c1
      have key : ∀ z0 : Int32, (∀ post : Int32 → SY → Prop, wY_pause_36 post (nI w) v2 z0 ac sc kp me od on fi le ki pa sk hi mM mA mN mB mF → wpY_pause post (ac, sc, kp, me, od, on, fi, le, ki, pa, sk, hi, mM, mA, mN, mB, mF) (nI w) v2) → wX_pause_26 (fun r u' => wpY_pause (fun r' v' => r' = r ∧ i_Rel (k + 5) u' v') (ac, sc, kp, me, od, on, fi, le, ki, pa, sk, hi, mM, mA, mN, mB, mF) (nI w) v2) (nI w) v2 z0 bl st lo ru ac sc me on pa fi la ki sk hi bS bZ bW bM kM kA kN kB kF ob := by
        intro z0 hz
        by_cases c2 : v2 = 0
        · have hY : wpY_pause (fun r' v' => r' = z0 ∧ i_Rel (k + 5) (bl, st, 0, ru, ac, sc, me, on, upd pa w (vp_nar .boolean 0), fi, la, ki, sk, hi, bS, bZ, bW, bM, kM, kA, kN, kB, kF, ob) v') (ac, sc, kp, me, od, on, fi, le, ki, pa, sk, hi, mM, mA, mN, mB, mF) (nI w) v2 := by
            refine hz _ ?_
            unfold wY_pause_36
            exact br_t c2 ⟨hin, nm_r (by rw [hc]) ⟨rfl, wu_mk ⟨h.1, hup.2.1, fun g => absurd rfl g⟩⟩⟩
          unfold wX_pause_26
          exact br_t c2 ⟨hin, nm_r (by rw [hc]) hY⟩
        · have hY : wpY_pause (fun r' v' => r' = z0 ∧ i_Rel (k + 5) (bl, st, 0, ru, ac, sc, me, on, upd pa w (vp_nar .boolean 1), fi, la, ki, sk, hi, bS, bZ, bW, bM, kM, kA, kN, kB, kF, ob) v') (ac, sc, kp, me, od, on, fi, le, ki, pa, sk, hi, mM, mA, mN, mB, mF) (nI w) v2 := by
            refine hz _ ?_
            unfold wY_pause_36
            exact br_f c2 ⟨hin, nm_r (by rw [hc]) ⟨rfl, wu_mk ⟨h.1, hup.2.1, fun g => absurd rfl g⟩⟩⟩
          unfold wX_pause_26
          exact br_f c2 ⟨hin, nm_r (by rw [hc]) hY⟩
      unfold wpX_pause
      refine wu_xr1 hw c1 (br_t wu_l0 ⟨hin, ?_⟩)
      by_cases c3 : pa (nI w).toNatClampNeg = 0
      · refine br_t c3 (key 0 (fun post hp => ?_))
        unfold wpY_pause
        exact wu_ybg hw (br_t rfl ⟨hin, br_f c1' ⟨hin, br_t c3 hp⟩⟩)
      · refine br_f c3 (key 1 (fun post hp => ?_))
        unfold wpY_pause
        exact wu_ybg hw (br_t rfl ⟨hin, br_f c1' ⟨hin, br_f c3 hp⟩⟩)
theorem i_vc_skip {k : Nat} {u : SX} {v : SY} (I : i_Rel k u v) (hk : k + 5 ≤ 2560) (v1 : Int32) (v2 : Int32) : wpX_skip (fun r u' => wpY_skip (fun r' v' => r' = r ∧ i_Rel (k + 5) u' v') v v1 v2) u v1 v2 := by
  refine wu_el (P := fun u v => wpX_skip (fun r u' => wpY_skip (fun r' v' => r' = r ∧ i_Rel (k + 5) u' v') v v1 v2) u v1 v2) ?_ I
  intro bl st lo ru ac sc kp me on pa fi la ki sk hi bS bZ bW bM kM kA kN kB kF ob od le mM mA mN mB mF h
  have hup := wu_rel_up (show 4 * k ≤ 4 * (k + 5) by omega) h
  rcases wu_ix8 v1 with hb | ⟨w, hw, rfl⟩
  · have hY : wpY_skip (fun r' v' => r' = -1 ∧ i_Rel (k + 5) (bl, st, lo, ru, ac, sc, me, on, pa, fi, la, ki, sk, hi, bS, bZ, bW, bM, kM, kA, kN, kB, kF, ob) v') (ac, sc, kp, me, od, on, fi, le, ki, pa, sk, hi, mM, mA, mN, mB, mF) v1 v2 := by
      unfold wpY_skip
      exact wu_ybb hb (br_f wu_l10 ⟨rfl, wu_mk hup⟩)
    unfold wpX_skip
    exact wu_xrb hb (br_f wu_l1 hY)
  · have hin : vp_in (nI w) 8 := vp_in_nI hw (by decide)
    have hc : (nI w).toNatClampNeg = w := nI_clamp (by omega)
    by_cases c1 : on w = 0
    · have c1' : on (nI w).toNatClampNeg = 0 := by rw [hc]; exact c1
      have hY : wpY_skip (fun r' v' => r' = -2 ∧ i_Rel (k + 5) (bl, st, lo, ru, ac, sc, me, on, pa, fi, la, ki, sk, hi, bS, bZ, bW, bM, kM, kA, kN, kB, kF, ob) v') (ac, sc, kp, me, od, on, fi, le, ki, pa, sk, hi, mM, mA, mN, mB, mF) (nI w) v2 := by
        unfold wpY_skip
        exact wu_ybg hw (br_t rfl ⟨hin, br_t c1' ⟨rfl, wu_mk hup⟩⟩)
      unfold wpX_skip
      exact wu_xr0 hw c1 (br_f wu_l2 hY)
    · have c1' : ¬ on (nI w).toNatClampNeg = 0 := by rw [hc]; exact c1
      by_cases c2 : v2 < 0
      · have hY : wpY_skip (fun r' v' => r' = -3 ∧ i_Rel (k + 5) (bl, st, lo, ru, ac, sc, me, on, pa, fi, la, ki, sk, hi, bS, bZ, bW, bM, kM, kA, kN, kB, kF, ob) v') (ac, sc, kp, me, od, on, fi, le, ki, pa, sk, hi, mM, mA, mN, mB, mF) (nI w) v2 := by
          unfold wpY_skip
          exact wu_ybg hw (br_t rfl ⟨hin, br_f c1' (br_t c2 ⟨rfl, wu_mk hup⟩)⟩)
        unfold wpX_skip
        exact wu_xr1 hw c1 (br_t wu_l0 (br_t c2 hY))
      · by_cases c3 : v2 ≤ 100
        · have hY : wpY_skip (fun r' v' => r' = sk w ∧ i_Rel (k + 5) (bl, st, lo, ru, ac, sc, me, on, pa, fi, la, ki, upd sk w v2, hi, bS, bZ, bW, bM, kM, kA, kN, kB, kF, ob) v') (ac, sc, kp, me, od, on, fi, le, ki, pa, sk, hi, mM, mA, mN, mB, mF) (nI w) v2 := by
            unfold wpY_skip
            exact wu_ybg hw (br_t rfl ⟨hin, br_f c1' (br_f c2 (br_t c3 ⟨hin, nm_r (by rw [hc]) ⟨hin, nm_r (by rw [hc]) ⟨rfl, wu_mk hup⟩⟩⟩))⟩)
          unfold wpX_skip
          exact wu_xr1 hw c1 (br_t wu_l0 (br_f c2 (br_t c3 ⟨hin, nm_r (by rw [hc]) ⟨hin, nm_r (by rw [hc]) hY⟩⟩)))
        · have hY : wpY_skip (fun r' v' => r' = -3 ∧ i_Rel (k + 5) (bl, st, lo, ru, ac, sc, me, on, pa, fi, la, ki, sk, hi, bS, bZ, bW, bM, kM, kA, kN, kB, kF, ob) v') (ac, sc, kp, me, od, on, fi, le, ki, pa, sk, hi, mM, mA, mN, mB, mF) (nI w) v2 := by
            unfold wpY_skip
            exact wu_ybg hw (br_t rfl ⟨hin, br_f c1' (br_f c2 (br_f c3 ⟨rfl, wu_mk hup⟩))⟩)
          unfold wpX_skip
          exact wu_xr1 hw c1 (br_t wu_l0 (br_f c2 (br_f c3 hY)))
theorem i_vc_hits {k : Nat} {u : SX} {v : SY} (I : i_Rel k u v) (hk : k + 5 ≤ 2560) (v1 : Int32) : wpX_hits (fun r => wpY_hits (fun r' => r' = r ∧ i_Rel (k + 5) u v) v v1) u v1 := by
  refine wu_el (P := fun u v => wpX_hits (fun r => wpY_hits (fun r' => r' = r ∧ i_Rel (k + 5) u v) v v1) u v1) ?_ I
  intro bl st lo ru ac sc kp me on pa fi la ki sk hi bS bZ bW bM kM kA kN kB kF ob od le mM mA mN mB mF h
  have hup := wu_rel_up (show 4 * k ≤ 4 * (k + 5) by omega) h
  rcases wu_ix8 v1 with hb | ⟨w, hw, rfl⟩
  · have hY : wpY_hits (fun r' => r' = -1 ∧ i_Rel (k + 5) (bl, st, lo, ru, ac, sc, me, on, pa, fi, la, ki, sk, hi, bS, bZ, bW, bM, kM, kA, kN, kB, kF, ob) (ac, sc, kp, me, od, on, fi, le, ki, pa, sk, hi, mM, mA, mN, mB, mF)) (ac, sc, kp, me, od, on, fi, le, ki, pa, sk, hi, mM, mA, mN, mB, mF) v1 := by
      unfold wpY_hits
      exact wu_ybb hb (br_f wu_l10 ⟨rfl, wu_mk hup⟩)
    unfold wpX_hits
    exact wu_xrb hb (br_f wu_l1 hY)
  · have hin : vp_in (nI w) 8 := vp_in_nI hw (by decide)
    have hc : (nI w).toNatClampNeg = w := nI_clamp (by omega)
    by_cases c1 : on w = 0
    · have c1' : on (nI w).toNatClampNeg = 0 := by rw [hc]; exact c1
      have hY : wpY_hits (fun r' => r' = -2 ∧ i_Rel (k + 5) (bl, st, lo, ru, ac, sc, me, on, pa, fi, la, ki, sk, hi, bS, bZ, bW, bM, kM, kA, kN, kB, kF, ob) (ac, sc, kp, me, od, on, fi, le, ki, pa, sk, hi, mM, mA, mN, mB, mF)) (ac, sc, kp, me, od, on, fi, le, ki, pa, sk, hi, mM, mA, mN, mB, mF) (nI w) := by
        unfold wpY_hits
        exact wu_ybg hw (br_t rfl ⟨hin, br_t c1' ⟨rfl, wu_mk hup⟩⟩)
      unfold wpX_hits
      exact wu_xr0 hw c1 (br_f wu_l2 hY)
    · have c1' : ¬ on (nI w).toNatClampNeg = 0 := by rw [hc]; exact c1
      have hY : wpY_hits (fun r' => r' = hi (nI w).toNatClampNeg ∧ i_Rel (k + 5) (bl, st, lo, ru, ac, sc, me, on, pa, fi, la, ki, sk, hi, bS, bZ, bW, bM, kM, kA, kN, kB, kF, ob) (ac, sc, kp, me, od, on, fi, le, ki, pa, sk, hi, mM, mA, mN, mB, mF)) (ac, sc, kp, me, od, on, fi, le, ki, pa, sk, hi, mM, mA, mN, mB, mF) (nI w) := by
        unfold wpY_hits
        exact wu_ybg hw (br_t rfl ⟨hin, br_f c1' ⟨hin, rfl, wu_mk hup⟩⟩)
      unfold wpX_hits
      exact wu_xr1 hw c1 (br_t wu_l0 ⟨hin, hY⟩)
theorem i_vc_skips {k : Nat} {u : SX} {v : SY} (I : i_Rel k u v) (hk : k + 5 ≤ 2560) (v1 : Int32) : wpX_skips (fun r => wpY_skips (fun r' => r' = r ∧ i_Rel (k + 5) u v) v v1) u v1 := by
  refine wu_el (P := fun u v => wpX_skips (fun r => wpY_skips (fun r' => r' = r ∧ i_Rel (k + 5) u v) v v1) u v1) ?_ I
  intro bl st lo ru ac sc kp me on pa fi la ki sk hi bS bZ bW bM kM kA kN kB kF ob od le mM mA mN mB mF h
  have hup := wu_rel_up (show 4 * k ≤ 4 * (k + 5) by omega) h
  rcases wu_ix8 v1 with hb | ⟨w, hw, rfl⟩
  · have hY : wpY_skips (fun r' => r' = -1 ∧ i_Rel (k + 5) (bl, st, lo, ru, ac, sc, me, on, pa, fi, la, ki, sk, hi, bS, bZ, bW, bM, kM, kA, kN, kB, kF, ob) (ac, sc, kp, me, od, on, fi, le, ki, pa, sk, hi, mM, mA, mN, mB, mF)) (ac, sc, kp, me, od, on, fi, le, ki, pa, sk, hi, mM, mA, mN, mB, mF) v1 := by
      unfold wpY_skips
      exact wu_ybb hb (br_f wu_l10 ⟨rfl, wu_mk hup⟩)
    unfold wpX_skips
    exact wu_xrb hb (br_f wu_l1 hY)
  · have hin : vp_in (nI w) 8 := vp_in_nI hw (by decide)
    have hc : (nI w).toNatClampNeg = w := nI_clamp (by omega)
    by_cases c1 : on w = 0
    · have c1' : on (nI w).toNatClampNeg = 0 := by rw [hc]; exact c1
      have hY : wpY_skips (fun r' => r' = -2 ∧ i_Rel (k + 5) (bl, st, lo, ru, ac, sc, me, on, pa, fi, la, ki, sk, hi, bS, bZ, bW, bM, kM, kA, kN, kB, kF, ob) (ac, sc, kp, me, od, on, fi, le, ki, pa, sk, hi, mM, mA, mN, mB, mF)) (ac, sc, kp, me, od, on, fi, le, ki, pa, sk, hi, mM, mA, mN, mB, mF) (nI w) := by
        unfold wpY_skips
        exact wu_ybg hw (br_t rfl ⟨hin, br_t c1' ⟨rfl, wu_mk hup⟩⟩)
      unfold wpX_skips
      exact wu_xr0 hw c1 (br_f wu_l2 hY)
    · have c1' : ¬ on (nI w).toNatClampNeg = 0 := by rw [hc]; exact c1
      have hY : wpY_skips (fun r' => r' = sk (nI w).toNatClampNeg ∧ i_Rel (k + 5) (bl, st, lo, ru, ac, sc, me, on, pa, fi, la, ki, sk, hi, bS, bZ, bW, bM, kM, kA, kN, kB, kF, ob) (ac, sc, kp, me, od, on, fi, le, ki, pa, sk, hi, mM, mA, mN, mB, mF)) (ac, sc, kp, me, od, on, fi, le, ki, pa, sk, hi, mM, mA, mN, mB, mF) (nI w) := by
        unfold wpY_skips
        exact wu_ybg hw (br_t rfl ⟨hin, br_f c1' ⟨hin, rfl, wu_mk hup⟩⟩)
      unfold wpX_skips
      exact wu_xr1 hw c1 (br_t wu_l0 ⟨hin, hY⟩)
theorem i_vc_peek {k : Nat} {u : SX} {v : SY} (I : i_Rel k u v) (hk : k + 5 ≤ 2560) (v1 : Int32) : wpX_peek (fun r => wpY_peek (fun r' => r' = r ∧ i_Rel (k + 5) u v) v v1) u v1 := by
  refine wu_el (P := fun u v => wpX_peek (fun r => wpY_peek (fun r' => r' = r ∧ i_Rel (k + 5) u v) v v1) u v1) ?_ I
  intro bl st lo ru ac sc kp me on pa fi la ki sk hi bS bZ bW bM kM kA kN kB kF ob od le mM mA mN mB mF h
  have hup := wu_rel_up (show 4 * k ≤ 4 * (k + 5) by omega) h
  rcases pk_ix v1 (n := 40) (by decide) with c | c | ⟨a, ha, rfl⟩
  · have hY : wpY_peek (fun r' => r' = -1 ∧ i_Rel (k + 5) (bl, st, lo, ru, ac, sc, me, on, pa, fi, la, ki, sk, hi, bS, bZ, bW, bM, kM, kA, kN, kB, kF, ob) (ac, sc, kp, me, od, on, fi, le, ki, pa, sk, hi, mM, mA, mN, mB, mF)) (ac, sc, kp, me, od, on, fi, le, ki, pa, sk, hi, mM, mA, mN, mB, mF) v1 := by
      unfold wpY_peek
      exact br_t c ⟨rfl, wu_mk hup⟩
    unfold wpX_peek
    exact br_t c hY
  · have c0 : ¬ v1 < 0 := fun g => absurd (Int32.lt_of_le_of_lt c g) (by decide)
    have c9 : ¬ v1 ≤ 39 := fun g => absurd (Int32.le_trans c g) (by decide)
    have hY : wpY_peek (fun r' => r' = -1 ∧ i_Rel (k + 5) (bl, st, lo, ru, ac, sc, me, on, pa, fi, la, ki, sk, hi, bS, bZ, bW, bM, kM, kA, kN, kB, kF, ob) (ac, sc, kp, me, od, on, fi, le, ki, pa, sk, hi, mM, mA, mN, mB, mF)) (ac, sc, kp, me, od, on, fi, le, ki, pa, sk, hi, mM, mA, mN, mB, mF) v1 := by
      unfold wpY_peek
      exact br_f c0 (br_f c9 ⟨rfl, wu_mk hup⟩)
    unfold wpX_peek
    exact br_f c0 (br_t c hY)
  · have hin : vp_in (nI a) 40 := vp_in_nI ha (by decide)
    have c0 : ¬ nI a < 0 := nI_pos (by omega)
    have hY : wpY_peek (fun r' => r' = me (nI a).toNatClampNeg ∧ i_Rel (k + 5) (bl, st, lo, ru, ac, sc, me, on, pa, fi, la, ki, sk, hi, bS, bZ, bW, bM, kM, kA, kN, kB, kF, ob) (ac, sc, kp, me, od, on, fi, le, ki, pa, sk, hi, mM, mA, mN, mB, mF)) (ac, sc, kp, me, od, on, fi, le, ki, pa, sk, hi, mM, mA, mN, mB, mF) (nI a) := by
      unfold wpY_peek
      exact br_f c0 (br_t (nI_le (b := 39) (by omega) (by decide)) ⟨hin, rfl, wu_mk hup⟩)
    unfold wpX_peek
    exact br_f c0 (br_f (nI_ge (b := 40) ha (by decide)) ⟨hin, hY⟩)
theorem i_vc_stops {k : Nat} {u : SX} {v : SY} (I : i_Rel k u v) (hk : k + 5 ≤ 2560) : wpX_stops (fun r => wpY_stops (fun r' => r' = r ∧ i_Rel (k + 5) u v) v) u := by
  refine wu_el (P := fun u v => wpX_stops (fun r => wpY_stops (fun r' => r' = r ∧ i_Rel (k + 5) u v) v) u) ?_ I
  intro bl st lo ru ac sc kp me on pa fi la ki sk hi bS bZ bW bM kM kA kN kB kF ob od le mM mA mN mB mF h
  have hup := wu_rel_up (show 4 * k ≤ 4 * (k + 5) by omega) h
  unfold wpX_stops wpY_stops
  exact ⟨rfl, wu_mk hup⟩
theorem i_vc_accesses {k : Nat} {u : SX} {v : SY} (I : i_Rel k u v) (hk : k + 5 ≤ 2560) : wpX_accesses (fun r => wpY_accesses (fun r' => r' = r ∧ i_Rel (k + 5) u v) v) u := by
  refine wu_el (P := fun u v => wpX_accesses (fun r => wpY_accesses (fun r' => r' = r ∧ i_Rel (k + 5) u v) v) u) ?_ I
  intro bl st lo ru ac sc kp me on pa fi la ki sk hi bS bZ bW bM kM kA kN kB kF ob od le mM mA mN mB mF h
  have hup := wu_rel_up (show 4 * k ≤ 4 * (k + 5) by omega) h
  unfold wpX_accesses wpY_accesses
  exact ⟨rfl, wu_mk hup⟩
theorem i_vc_kept {k : Nat} {u : SX} {v : SY} (I : i_Rel k u v) (hk : k + 5 ≤ 2560) : wpX_kept (fun r => wpY_kept (fun r' => r' = r ∧ i_Rel (k + 5) u v) v) u := by
  refine wu_el (P := fun u v => wpX_kept (fun r => wpY_kept (fun r' => r' = r ∧ i_Rel (k + 5) u v) v) u) ?_ I
  intro bl st lo ru ac sc kp me on pa fi la ki sk hi bS bZ bW bM kM kA kN kB kF ob od le mM mA mN mB mF h
  have hup := wu_rel_up (show 4 * k ≤ 4 * (k + 5) by omega) h
  have hR : wu_R (4 * (k + 5)) (bl, st, lo, ru, ac, sc, me, on, pa, fi, la, ki, sk, hi, bS, bZ, bW, bM, kM, kA, kN, kB, kF, ob) (ac, sc, kp, me, od, on, fi, le, ki, pa, sk, hi, mM, mA, mN, mB, mF) := wu_mk hup
  obtain ⟨t, t1, e1, e2, _⟩ := h.2.1
  have hY : ∀ r, kp = r → wpY_kept (fun r' => r' = r ∧ i_Rel (k + 5) (bl, st, lo, ru, ac, sc, me, on, pa, fi, la, ki, sk, hi, bS, bZ, bW, bM, kM, kA, kN, kB, kF, ob) (ac, sc, kp, me, od, on, fi, le, ki, pa, sk, hi, mM, mA, mN, mB, mF)) (ac, sc, kp, me, od, on, fi, le, ki, pa, sk, hi, mM, mA, mN, mB, mF) := by
    intro r e
    unfold wpY_kept
    exact ⟨e, hR⟩
  unfold wpX_kept
  by_cases c : t < 8
  · refine br_f (by rw [e1]; exact nI_ge (b := 8) c (by decide)) (hY sc ?_)
    rw [e1, e2]
    exact congrArg nI (if_pos c)
  · refine br_t (by rw [e1]; exact nI_le (a := 8) (by omega) (by omega)) (hY 8 ?_)
    rw [e2]
    exact congrArg nI (if_neg c)
theorem i_vc_stopMask {k : Nat} {u : SX} {v : SY} (I : i_Rel k u v) (hk : k + 5 ≤ 2560) (v1 : Int32) : wpX_stopMask (fun r => wpY_stopMask (fun r' => r' = r ∧ i_Rel (k + 5) u v) v v1) u v1 := by
  refine wu_el (P := fun u v => wpX_stopMask (fun r => wpY_stopMask (fun r' => r' = r ∧ i_Rel (k + 5) u v) v v1) u v1) ?_ I
  intro bl st lo ru ac sc kp me on pa fi la ki sk hi bS bZ bW bM kM kA kN kB kF ob od le mM mA mN mB mF h
  have hup := wu_rel_up (show 4 * k ≤ 4 * (k + 5) by omega) h
  rcases wu_ix8 v1 with hb | ⟨i, hi8, rfl⟩
  · have hY : wpY_stopMask (fun r' => r' = -1 ∧ i_Rel (k + 5) (bl, st, lo, ru, ac, sc, me, on, pa, fi, la, ki, sk, hi, bS, bZ, bW, bM, kM, kA, kN, kB, kF, ob) (ac, sc, kp, me, od, on, fi, le, ki, pa, sk, hi, mM, mA, mN, mB, mF)) (ac, sc, kp, me, od, on, fi, le, ki, pa, sk, hi, mM, mA, mN, mB, mF) v1 := by
      unfold wpY_stopMask
      exact wu_ykb hb (br_f wu_l10 ⟨rfl, wu_mk hup⟩)
    unfold wpX_stopMask
    exact wu_xkb hb (br_t rfl hY)
  · obtain ⟨t, t1, rfl, rfl, r0, r1, r2, r3, r4⟩ := h.2.1
    by_cases c : t ≤ i
    · have hY : wpY_stopMask (fun r' => r' = -1 ∧ i_Rel (k + 5) (bl, st, lo, ru, ac, nI t, me, on, pa, fi, la, ki, sk, hi, bS, bZ, bW, bM, kM, kA, kN, kB, kF, ob) (ac, nI t, nI (wu_n8 t), me, od, on, fi, le, ki, pa, sk, hi, mM, mA, mN, mB, mF)) (ac, nI t, nI (wu_n8 t), me, od, on, fi, le, ki, pa, sk, hi, mM, mA, mN, mB, mF) (nI i) := by
        unfold wpY_stopMask
        exact wu_yk0 hi8 c (br_f wu_l10 ⟨rfl, wu_mk hup⟩)
      unfold wpX_stopMask
      exact wu_xk0 hi8 c (br_t rfl hY)
    · have hin : vp_in (nI i) 8 := vp_in_nI hi8 (by decide)
      have hin2 : vp_in (nI ((t - 1 - i) % 8)) 8 := vp_in_nI (by omega) (by decide)
      have hc : (nI i).toNatClampNeg = i := nI_clamp (by omega)
      have hc2 : (nI ((t - 1 - i) % 8)).toNatClampNeg = (t - 1 - i) % 8 := nI_clamp (by omega)
      have hY : wpY_stopMask (fun r' => r' = kM (nI ((t - 1 - i) % 8)).toNatClampNeg ∧ i_Rel (k + 5) (bl, st, lo, ru, ac, nI t, me, on, pa, fi, la, ki, sk, hi, bS, bZ, bW, bM, kM, kA, kN, kB, kF, ob) (ac, nI t, nI (wu_n8 t), me, od, on, fi, le, ki, pa, sk, hi, mM, mA, mN, mB, mF)) (ac, nI t, nI (wu_n8 t), me, od, on, fi, le, ki, pa, sk, hi, mM, mA, mN, mB, mF) (nI i) := by
        unfold wpY_stopMask
        exact wu_yk1 hi8 (by omega) (br_t rfl ⟨hin, by rw [hc, hc2]; exact r0 i (by omega) hi8, wu_mk hup⟩)
      unfold wpX_stopMask
      exact wu_xk1 hi8 (by omega) (by omega) (br_f wu_l10 (wu_xcell (by omega) (by omega) ⟨hin2, hY⟩))
theorem i_vc_stopAddress {k : Nat} {u : SX} {v : SY} (I : i_Rel k u v) (hk : k + 5 ≤ 2560) (v1 : Int32) : wpX_stopAddress (fun r => wpY_stopAddress (fun r' => r' = r ∧ i_Rel (k + 5) u v) v v1) u v1 := by
  refine wu_el (P := fun u v => wpX_stopAddress (fun r => wpY_stopAddress (fun r' => r' = r ∧ i_Rel (k + 5) u v) v v1) u v1) ?_ I
  intro bl st lo ru ac sc kp me on pa fi la ki sk hi bS bZ bW bM kM kA kN kB kF ob od le mM mA mN mB mF h
  have hup := wu_rel_up (show 4 * k ≤ 4 * (k + 5) by omega) h
  rcases wu_ix8 v1 with hb | ⟨i, hi8, rfl⟩
  · have hY : wpY_stopAddress (fun r' => r' = -1 ∧ i_Rel (k + 5) (bl, st, lo, ru, ac, sc, me, on, pa, fi, la, ki, sk, hi, bS, bZ, bW, bM, kM, kA, kN, kB, kF, ob) (ac, sc, kp, me, od, on, fi, le, ki, pa, sk, hi, mM, mA, mN, mB, mF)) (ac, sc, kp, me, od, on, fi, le, ki, pa, sk, hi, mM, mA, mN, mB, mF) v1 := by
      unfold wpY_stopAddress
      exact wu_ykb hb (br_f wu_l10 ⟨rfl, wu_mk hup⟩)
    unfold wpX_stopAddress
    exact wu_xkb hb (br_t rfl hY)
  · obtain ⟨t, t1, rfl, rfl, r0, r1, r2, r3, r4⟩ := h.2.1
    by_cases c : t ≤ i
    · have hY : wpY_stopAddress (fun r' => r' = -1 ∧ i_Rel (k + 5) (bl, st, lo, ru, ac, nI t, me, on, pa, fi, la, ki, sk, hi, bS, bZ, bW, bM, kM, kA, kN, kB, kF, ob) (ac, nI t, nI (wu_n8 t), me, od, on, fi, le, ki, pa, sk, hi, mM, mA, mN, mB, mF)) (ac, nI t, nI (wu_n8 t), me, od, on, fi, le, ki, pa, sk, hi, mM, mA, mN, mB, mF) (nI i) := by
        unfold wpY_stopAddress
        exact wu_yk0 hi8 c (br_f wu_l10 ⟨rfl, wu_mk hup⟩)
      unfold wpX_stopAddress
      exact wu_xk0 hi8 c (br_t rfl hY)
    · have hin : vp_in (nI i) 8 := vp_in_nI hi8 (by decide)
      have hin2 : vp_in (nI ((t - 1 - i) % 8)) 8 := vp_in_nI (by omega) (by decide)
      have hc : (nI i).toNatClampNeg = i := nI_clamp (by omega)
      have hc2 : (nI ((t - 1 - i) % 8)).toNatClampNeg = (t - 1 - i) % 8 := nI_clamp (by omega)
      have hY : wpY_stopAddress (fun r' => r' = kA (nI ((t - 1 - i) % 8)).toNatClampNeg ∧ i_Rel (k + 5) (bl, st, lo, ru, ac, nI t, me, on, pa, fi, la, ki, sk, hi, bS, bZ, bW, bM, kM, kA, kN, kB, kF, ob) (ac, nI t, nI (wu_n8 t), me, od, on, fi, le, ki, pa, sk, hi, mM, mA, mN, mB, mF)) (ac, nI t, nI (wu_n8 t), me, od, on, fi, le, ki, pa, sk, hi, mM, mA, mN, mB, mF) (nI i) := by
        unfold wpY_stopAddress
        exact wu_yk1 hi8 (by omega) (br_t rfl ⟨hin, by rw [hc, hc2]; exact r1 i (by omega) hi8, wu_mk hup⟩)
      unfold wpX_stopAddress
      exact wu_xk1 hi8 (by omega) (by omega) (br_f wu_l10 (wu_xcell (by omega) (by omega) ⟨hin2, hY⟩))
theorem i_vc_stopNumber {k : Nat} {u : SX} {v : SY} (I : i_Rel k u v) (hk : k + 5 ≤ 2560) (v1 : Int32) : wpX_stopNumber (fun r => wpY_stopNumber (fun r' => r' = r ∧ i_Rel (k + 5) u v) v v1) u v1 := by
  refine wu_el (P := fun u v => wpX_stopNumber (fun r => wpY_stopNumber (fun r' => r' = r ∧ i_Rel (k + 5) u v) v v1) u v1) ?_ I
  intro bl st lo ru ac sc kp me on pa fi la ki sk hi bS bZ bW bM kM kA kN kB kF ob od le mM mA mN mB mF h
  have hup := wu_rel_up (show 4 * k ≤ 4 * (k + 5) by omega) h
  rcases wu_ix8 v1 with hb | ⟨i, hi8, rfl⟩
  · have hY : wpY_stopNumber (fun r' => r' = -1 ∧ i_Rel (k + 5) (bl, st, lo, ru, ac, sc, me, on, pa, fi, la, ki, sk, hi, bS, bZ, bW, bM, kM, kA, kN, kB, kF, ob) (ac, sc, kp, me, od, on, fi, le, ki, pa, sk, hi, mM, mA, mN, mB, mF)) (ac, sc, kp, me, od, on, fi, le, ki, pa, sk, hi, mM, mA, mN, mB, mF) v1 := by
      unfold wpY_stopNumber
      exact wu_ykb hb (br_f wu_l10 ⟨rfl, wu_mk hup⟩)
    unfold wpX_stopNumber
    exact wu_xkb hb (br_t rfl hY)
  · obtain ⟨t, t1, rfl, rfl, r0, r1, r2, r3, r4⟩ := h.2.1
    by_cases c : t ≤ i
    · have hY : wpY_stopNumber (fun r' => r' = -1 ∧ i_Rel (k + 5) (bl, st, lo, ru, ac, nI t, me, on, pa, fi, la, ki, sk, hi, bS, bZ, bW, bM, kM, kA, kN, kB, kF, ob) (ac, nI t, nI (wu_n8 t), me, od, on, fi, le, ki, pa, sk, hi, mM, mA, mN, mB, mF)) (ac, nI t, nI (wu_n8 t), me, od, on, fi, le, ki, pa, sk, hi, mM, mA, mN, mB, mF) (nI i) := by
        unfold wpY_stopNumber
        exact wu_yk0 hi8 c (br_f wu_l10 ⟨rfl, wu_mk hup⟩)
      unfold wpX_stopNumber
      exact wu_xk0 hi8 c (br_t rfl hY)
    · have hin : vp_in (nI i) 8 := vp_in_nI hi8 (by decide)
      have hin2 : vp_in (nI ((t - 1 - i) % 8)) 8 := vp_in_nI (by omega) (by decide)
      have hc : (nI i).toNatClampNeg = i := nI_clamp (by omega)
      have hc2 : (nI ((t - 1 - i) % 8)).toNatClampNeg = (t - 1 - i) % 8 := nI_clamp (by omega)
      have hY : wpY_stopNumber (fun r' => r' = kN (nI ((t - 1 - i) % 8)).toNatClampNeg ∧ i_Rel (k + 5) (bl, st, lo, ru, ac, nI t, me, on, pa, fi, la, ki, sk, hi, bS, bZ, bW, bM, kM, kA, kN, kB, kF, ob) (ac, nI t, nI (wu_n8 t), me, od, on, fi, le, ki, pa, sk, hi, mM, mA, mN, mB, mF)) (ac, nI t, nI (wu_n8 t), me, od, on, fi, le, ki, pa, sk, hi, mM, mA, mN, mB, mF) (nI i) := by
        unfold wpY_stopNumber
        exact wu_yk1 hi8 (by omega) (br_t rfl ⟨hin, by rw [hc, hc2]; exact r2 i (by omega) hi8, wu_mk hup⟩)
      unfold wpX_stopNumber
      exact wu_xk1 hi8 (by omega) (by omega) (br_f wu_l10 (wu_xcell (by omega) (by omega) ⟨hin2, hY⟩))
theorem i_vc_before {k : Nat} {u : SX} {v : SY} (I : i_Rel k u v) (hk : k + 5 ≤ 2560) (v1 : Int32) : wpX_before (fun r => wpY_before (fun r' => r' = r ∧ i_Rel (k + 5) u v) v v1) u v1 := by
  refine wu_el (P := fun u v => wpX_before (fun r => wpY_before (fun r' => r' = r ∧ i_Rel (k + 5) u v) v v1) u v1) ?_ I
  intro bl st lo ru ac sc kp me on pa fi la ki sk hi bS bZ bW bM kM kA kN kB kF ob od le mM mA mN mB mF h
  have hup := wu_rel_up (show 4 * k ≤ 4 * (k + 5) by omega) h
  rcases wu_ix8 v1 with hb | ⟨i, hi8, rfl⟩
  · have hY : wpY_before (fun r' => r' = 0 ∧ i_Rel (k + 5) (bl, st, lo, ru, ac, sc, me, on, pa, fi, la, ki, sk, hi, bS, bZ, bW, bM, kM, kA, kN, kB, kF, ob) (ac, sc, kp, me, od, on, fi, le, ki, pa, sk, hi, mM, mA, mN, mB, mF)) (ac, sc, kp, me, od, on, fi, le, ki, pa, sk, hi, mM, mA, mN, mB, mF) v1 := by
      unfold wpY_before
      exact wu_ykb hb (br_f wu_l10 ⟨rfl, wu_mk hup⟩)
    unfold wpX_before
    exact wu_xkb hb (br_t rfl hY)
  · obtain ⟨t, t1, rfl, rfl, r0, r1, r2, r3, r4⟩ := h.2.1
    by_cases c : t ≤ i
    · have hY : wpY_before (fun r' => r' = 0 ∧ i_Rel (k + 5) (bl, st, lo, ru, ac, nI t, me, on, pa, fi, la, ki, sk, hi, bS, bZ, bW, bM, kM, kA, kN, kB, kF, ob) (ac, nI t, nI (wu_n8 t), me, od, on, fi, le, ki, pa, sk, hi, mM, mA, mN, mB, mF)) (ac, nI t, nI (wu_n8 t), me, od, on, fi, le, ki, pa, sk, hi, mM, mA, mN, mB, mF) (nI i) := by
        unfold wpY_before
        exact wu_yk0 hi8 c (br_f wu_l10 ⟨rfl, wu_mk hup⟩)
      unfold wpX_before
      exact wu_xk0 hi8 c (br_t rfl hY)
    · have hin : vp_in (nI i) 8 := vp_in_nI hi8 (by decide)
      have hin2 : vp_in (nI ((t - 1 - i) % 8)) 8 := vp_in_nI (by omega) (by decide)
      have hc : (nI i).toNatClampNeg = i := nI_clamp (by omega)
      have hc2 : (nI ((t - 1 - i) % 8)).toNatClampNeg = (t - 1 - i) % 8 := nI_clamp (by omega)
      have hY : wpY_before (fun r' => r' = kB (nI ((t - 1 - i) % 8)).toNatClampNeg ∧ i_Rel (k + 5) (bl, st, lo, ru, ac, nI t, me, on, pa, fi, la, ki, sk, hi, bS, bZ, bW, bM, kM, kA, kN, kB, kF, ob) (ac, nI t, nI (wu_n8 t), me, od, on, fi, le, ki, pa, sk, hi, mM, mA, mN, mB, mF)) (ac, nI t, nI (wu_n8 t), me, od, on, fi, le, ki, pa, sk, hi, mM, mA, mN, mB, mF) (nI i) := by
        unfold wpY_before
        exact wu_yk1 hi8 (by omega) (br_t rfl ⟨hin, by rw [hc, hc2]; exact r3 i (by omega) hi8, wu_mk hup⟩)
      unfold wpX_before
      exact wu_xk1 hi8 (by omega) (by omega) (br_f wu_l10 (wu_xcell (by omega) (by omega) ⟨hin2, hY⟩))
theorem i_vc_after {k : Nat} {u : SX} {v : SY} (I : i_Rel k u v) (hk : k + 5 ≤ 2560) (v1 : Int32) : wpX_after (fun r => wpY_after (fun r' => r' = r ∧ i_Rel (k + 5) u v) v v1) u v1 := by
  refine wu_el (P := fun u v => wpX_after (fun r => wpY_after (fun r' => r' = r ∧ i_Rel (k + 5) u v) v v1) u v1) ?_ I
  intro bl st lo ru ac sc kp me on pa fi la ki sk hi bS bZ bW bM kM kA kN kB kF ob od le mM mA mN mB mF h
  have hup := wu_rel_up (show 4 * k ≤ 4 * (k + 5) by omega) h
  rcases wu_ix8 v1 with hb | ⟨i, hi8, rfl⟩
  · have hY : wpY_after (fun r' => r' = 0 ∧ i_Rel (k + 5) (bl, st, lo, ru, ac, sc, me, on, pa, fi, la, ki, sk, hi, bS, bZ, bW, bM, kM, kA, kN, kB, kF, ob) (ac, sc, kp, me, od, on, fi, le, ki, pa, sk, hi, mM, mA, mN, mB, mF)) (ac, sc, kp, me, od, on, fi, le, ki, pa, sk, hi, mM, mA, mN, mB, mF) v1 := by
      unfold wpY_after
      exact wu_ykb hb (br_f wu_l10 ⟨rfl, wu_mk hup⟩)
    unfold wpX_after
    exact wu_xkb hb (br_t rfl hY)
  · obtain ⟨t, t1, rfl, rfl, r0, r1, r2, r3, r4⟩ := h.2.1
    by_cases c : t ≤ i
    · have hY : wpY_after (fun r' => r' = 0 ∧ i_Rel (k + 5) (bl, st, lo, ru, ac, nI t, me, on, pa, fi, la, ki, sk, hi, bS, bZ, bW, bM, kM, kA, kN, kB, kF, ob) (ac, nI t, nI (wu_n8 t), me, od, on, fi, le, ki, pa, sk, hi, mM, mA, mN, mB, mF)) (ac, nI t, nI (wu_n8 t), me, od, on, fi, le, ki, pa, sk, hi, mM, mA, mN, mB, mF) (nI i) := by
        unfold wpY_after
        exact wu_yk0 hi8 c (br_f wu_l10 ⟨rfl, wu_mk hup⟩)
      unfold wpX_after
      exact wu_xk0 hi8 c (br_t rfl hY)
    · have hin : vp_in (nI i) 8 := vp_in_nI hi8 (by decide)
      have hin2 : vp_in (nI ((t - 1 - i) % 8)) 8 := vp_in_nI (by omega) (by decide)
      have hc : (nI i).toNatClampNeg = i := nI_clamp (by omega)
      have hc2 : (nI ((t - 1 - i) % 8)).toNatClampNeg = (t - 1 - i) % 8 := nI_clamp (by omega)
      have hY : wpY_after (fun r' => r' = kF (nI ((t - 1 - i) % 8)).toNatClampNeg ∧ i_Rel (k + 5) (bl, st, lo, ru, ac, nI t, me, on, pa, fi, la, ki, sk, hi, bS, bZ, bW, bM, kM, kA, kN, kB, kF, ob) (ac, nI t, nI (wu_n8 t), me, od, on, fi, le, ki, pa, sk, hi, mM, mA, mN, mB, mF)) (ac, nI t, nI (wu_n8 t), me, od, on, fi, le, ki, pa, sk, hi, mM, mA, mN, mB, mF) (nI i) := by
        unfold wpY_after
        exact wu_yk1 hi8 (by omega) (br_t rfl ⟨hin, by rw [hc, hc2]; exact r4 i (by omega) hi8, wu_mk hup⟩)
      unfold wpX_after
      exact wu_xk1 hi8 (by omega) (by omega) (br_f wu_l10 (wu_xcell (by omega) (by omega) ⟨hin2, hY⟩))
theorem i_vc_watched {k : Nat} {u : SX} {v : SY} (I : i_Rel k u v) (hk : k + 5 ≤ 2560) : wpX_watched (fun r => wpY_watched (fun r' => r' = r ∧ i_Rel (k + 5) u v) v) u := by
  refine wu_el (P := fun u v => wpX_watched (fun r => wpY_watched (fun r' => r' = r ∧ i_Rel (k + 5) u v) v) u) ?_ I
  intro bl st lo ru ac sc kp me on pa fi la ki sk hi bS bZ bW bM kM kA kN kB kF ob od le mM mA mN mB mF h
  have hup := wu_rel_up (show 4 * k ≤ 4 * (k + 5) by omega) h
  obtain ⟨r, k1, k2⟩ := wu_w4 (bl := bl) (st := st) (lo := lo) (ru := ru) (ac := ac) (sc := sc) (kp := kp) (me := me) (pa := pa) (sk := sk) (hi := hi) (bS := bS) (bZ := bZ) (bW := bW) (bM := bM) (kM := kM) (kA := kA) (kN := kN) (kB := kB) (kF := kF) (ob := ob) (od := od) (mM := mM) (mA := mA) (mN := mN) (mB := mB) (mF := mF) h.1 40 0 rfl 0
  unfold wpX_watched
  refine ⟨41, k1 _ ?_⟩
  unfold wpY_watched
  exact ⟨41, k2 _ ⟨rfl, wu_mk hup⟩⟩
theorem wu_sz (x : Int32) : (x = 1 ∨ x = 2 ∨ x = 4) ∨ (¬ x = 1 ∧ ¬ x = 2 ∧ ¬ x = 4) := by
  by_cases c1 : x = 1
  · exact Or.inl (Or.inl c1)
  · by_cases c2 : x = 2
    · exact Or.inl (Or.inr (Or.inl c2))
    · by_cases c4 : x = 4
      · exact Or.inl (Or.inr (Or.inr c4))
      · exact Or.inr ⟨c1, c2, c4⟩
theorem wu_szN {x : Int32} (h : x = 1 ∨ x = 2 ∨ x = 4) : ∃ s : Nat, x = nI s ∧ (s = 1 ∨ s = 2 ∨ s = 4) := by
  rcases h with rfl | rfl | rfl
  · exact ⟨1, rfl, by omega⟩
  · exact ⟨2, rfl, by omega⟩
  · exact ⟨4, rfl, by omega⟩
theorem wu_xz1 {x : Int32} {post : Int32 → Prop} (h : x = 1 ∨ x = 2 ∨ x = 4) (hp : post 1) : wpX_isSize post x := by
  unfold wpX_isSize
  exact br_c (fun _ => hp) (fun n1 => br_c (fun _ => hp) (fun n2 => br_c (fun _ => hp) (fun n4 => by rcases h with h | h | h <;> contradiction)))
theorem wu_xz0 {x : Int32} {post : Int32 → Prop} (h : ¬ x = 1 ∧ ¬ x = 2 ∧ ¬ x = 4) (hp : post 0) : wpX_isSize post x := by
  unfold wpX_isSize
  exact br_f h.1 (br_f h.2.1 (br_f h.2.2 hp))
section
variable {bl st lo ru ac sc kp : Int32} {me on pa fi la ki sk hi bS bZ bW bM kM kA kN kB kF ob od le mM mA mN mB mF : Nat → Int32}
theorem wu_yz1 {x : Int32} {post : Int32 → Prop} (h : x = 1 ∨ x = 2 ∨ x = 4) (hp : post 0) : wpY_badSize post (ac, sc, kp, me, od, on, fi, le, ki, pa, sk, hi, mM, mA, mN, mB, mF) x := by
  unfold wpY_badSize
  exact br_c (fun _ => hp) (fun n1 => br_c (fun _ => hp) (fun n2 => br_c (fun _ => hp) (fun n4 => by rcases h with h | h | h <;> contradiction)))
theorem wu_yz0 {x : Int32} {post : Int32 → Prop} (h : ¬ x = 1 ∧ ¬ x = 2 ∧ ¬ x = 4) (hp : post 1) : wpY_badSize post (ac, sc, kp, me, od, on, fi, le, ki, pa, sk, hi, mM, mA, mN, mB, mF) x := by
  unfold wpY_badSize
  exact br_f h.1 (br_f h.2.1 (br_f h.2.2 hp))
end
theorem wu_xf0 {x y : Int32} {post : Int32 → Prop} (h : x < 0 ∨ (40 - y) < x) (hp : post 0) : wpX_fits post x y := by
  unfold wpX_fits
  rcases h with h | h
  · exact br_t h hp
  · exact br_c (fun _ => hp) (fun _ => br_t h hp)
theorem wu_xf1 {x y : Int32} {post : Int32 → Prop} (h0 : ¬ x < 0) (h : ¬ (40 - y) < x) (hp : post 1) : wpX_fits post x y := by
  unfold wpX_fits
  exact br_f h0 (br_f h hp)
theorem wu_ft {x : Int32} {s : Nat} (hs : s = 1 ∨ s = 2 ∨ s = 4) (h0 : ¬ x < 0) (h : x ≤ 40 - nI s) : ∃ a : Nat, x = nI a ∧ a + s ≤ 40 := by
  obtain ⟨a, ha, rfl⟩ := nI_of h0
  have e : (40 : Int32) - nI s = nI (40 - s) := pk_sub (a := 40) (by omega)
  rw [e, nI_leI ha (by omega)] at h
  exact ⟨a, rfl, by omega⟩
theorem i_vc_load {k : Nat} {u : SX} {v : SY} (I : i_Rel k u v) (hk : k + 5 ≤ 2560) (v1 : Int32) (v2 : Int32) : wpX_load (fun r u' => wpY_load (fun r' v' => r' = r ∧ i_Rel (k + 5) u' v') v v1 v2) u v1 v2 := by
  refine wu_el (P := fun u v => wpX_load (fun r u' => wpY_load (fun r' v' => r' = r ∧ i_Rel (k + 5) u' v') v v1 v2) u v1 v2) ?_ I
  intro bl st lo ru ac sc kp me on pa fi la ki sk hi bS bZ bW bM kM kA kN kB kF ob od le mM mA mN mB mF h
  have hup := wu_rel_up (show 4 * k ≤ 4 * (k + 5) by omega) h
  rcases wu_sz v2 with hz | hz
  case inr =>
    have hY : wpY_load (fun r' v' => r' = 0 ∧ i_Rel (k + 5) (bl, st, lo, ru, ac, sc, me, on, pa, fi, la, ki, sk, hi, bS, bZ, bW, bM, kM, kA, kN, kB, kF, ob) v') (ac, sc, kp, me, od, on, fi, le, ki, pa, sk, hi, mM, mA, mN, mB, mF) v1 v2 := by
      unfold wpY_load
      exact wu_yz0 hz (br_f wu_l10 ⟨rfl, wu_mk hup⟩)
    unfold wpX_load
    exact wu_xz0 hz (br_t rfl hY)
  by_cases c0 : v1 < 0
  · have hY : wpY_load (fun r' v' => r' = 0 ∧ i_Rel (k + 5) (bl, st, lo, ru, ac, sc, me, on, pa, fi, la, ki, sk, hi, bS, bZ, bW, bM, kM, kA, kN, kB, kF, ob) v') (ac, sc, kp, me, od, on, fi, le, ki, pa, sk, hi, mM, mA, mN, mB, mF) v1 v2 := by
      unfold wpY_load
      exact wu_yz1 hz (br_t rfl (br_t c0 ⟨rfl, wu_mk hup⟩))
    unfold wpX_load
    exact wu_xz1 hz (br_f wu_l10 (wu_xf0 (Or.inl c0) (br_t rfl hY)))
  by_cases c1 : v1 ≤ 40 - v2
  case neg =>
    have hY : wpY_load (fun r' v' => r' = 0 ∧ i_Rel (k + 5) (bl, st, lo, ru, ac, sc, me, on, pa, fi, la, ki, sk, hi, bS, bZ, bW, bM, kM, kA, kN, kB, kF, ob) v') (ac, sc, kp, me, od, on, fi, le, ki, pa, sk, hi, mM, mA, mN, mB, mF) v1 v2 := by
      unfold wpY_load
      exact wu_yz1 hz (br_t rfl (br_f c0 (br_f c1 ⟨rfl, wu_mk hup⟩)))
    unfold wpX_load
    exact wu_xz1 hz (br_f wu_l10 (wu_xf0 (Or.inr (Int32.not_le.mp c1)) (br_t rfl hY)))
  obtain ⟨s, es, hs⟩ := wu_szN hz
  subst es
  obtain ⟨a, ea, ha⟩ := wu_ft hs c0 c1
  subst ea
  obtain ⟨m, c, u', v', k1, k2, k3, k4, k5, k6⟩ := wu_read (ac := ac) (me := me) (sk := sk) (hi := hi) (ob := ob) (od := od) h (by omega) ha hs
  have hR : i_Rel (k + 5) u' v' := wu_R_up (by omega) k1
  obtain ⟨bl1, st1, lo1, ru1, ac1, sc1, me1, on1, pa1, fi1, la1, ki1, sk1, hi1, bS1, bZ1, bW1, bM1, kM1, kA1, kN1, kB1, kF1, ob1⟩ := u'
  obtain ⟨ac2, sc2, kp2, me2, od2, on2, fi2, le2, ki2, pa2, sk2, hi2, mM2, mA2, mN2, mB2, mF2⟩ := v'
  have k4' : me2 = me := k4
  subst k4'
  have hY : wpY_load (fun r' v' => r' = wu_vx (fun j => me2 (a + j)) s 0 ∧ i_Rel (k + 5) (bl1, st1, lo1, ru1, ac1, sc1, me1, on1, pa1, fi1, la1, ki1, sk1, hi1, bS1, bZ1, bW1, bM1, kM1, kA1, kN1, kB1, kF1, ob1) v') (ac, sc, kp, me2, od, on, fi, le, ki, pa, sk, hi, mM, mA, mN, mB, mF) (nI a) (nI s) := by
    unfold wpY_load
    refine wu_yz1 hz (br_t rfl (br_f c0 (br_t c1 (k6 _ ?_))))
    exact wu_yn1 ha ⟨(wu_v hs).symm, hR⟩
  unfold wpX_load
  refine wu_xz1 hz (br_f wu_l10 (wu_xf1 c0 (Int32.not_lt.mpr c1) (br_f wu_l10 (wu_xv ha ?_))))
  refine wu_xr ha (by omega) ?_
  exact k5 _ hY
theorem i_vc_store {k : Nat} {u : SX} {v : SY} (I : i_Rel k u v) (hk : k + 5 ≤ 2560) (v1 : Int32) (v2 : Int32) (v3 : Int32) : wpX_store (fun r u' => wpY_store (fun r' v' => r' = r ∧ i_Rel (k + 5) u' v') v v1 v2 v3) u v1 v2 v3 := by
  refine wu_el (P := fun u v => wpX_store (fun r u' => wpY_store (fun r' v' => r' = r ∧ i_Rel (k + 5) u' v') v v1 v2 v3) u v1 v2 v3) ?_ I
  intro bl st lo ru ac sc kp me on pa fi la ki sk hi bS bZ bW bM kM kA kN kB kF ob od le mM mA mN mB mF h
  have hup := wu_rel_up (show 4 * k ≤ 4 * (k + 5) by omega) h
  rcases wu_sz v2 with hz | hz
  case inr =>
    have hY : wpY_store (fun r' v' => r' = -1 ∧ i_Rel (k + 5) (bl, st, lo, ru, ac, sc, me, on, pa, fi, la, ki, sk, hi, bS, bZ, bW, bM, kM, kA, kN, kB, kF, ob) v') (ac, sc, kp, me, od, on, fi, le, ki, pa, sk, hi, mM, mA, mN, mB, mF) v1 v2 v3 := by
      unfold wpY_store
      exact wu_yz0 hz (br_f wu_l10 ⟨rfl, wu_mk hup⟩)
    unfold wpX_store
    exact wu_xz0 hz (br_t rfl hY)
  by_cases c0 : v1 < 0
  · have hY : wpY_store (fun r' v' => r' = -2 ∧ i_Rel (k + 5) (bl, st, lo, ru, ac, sc, me, on, pa, fi, la, ki, sk, hi, bS, bZ, bW, bM, kM, kA, kN, kB, kF, ob) v') (ac, sc, kp, me, od, on, fi, le, ki, pa, sk, hi, mM, mA, mN, mB, mF) v1 v2 v3 := by
      unfold wpY_store
      exact wu_yz1 hz (br_t rfl (br_t c0 ⟨rfl, wu_mk hup⟩))
    unfold wpX_store
    exact wu_xz1 hz (br_f wu_l10 (wu_xf0 (Or.inl c0) (br_t rfl hY)))
  by_cases c1 : v1 ≤ 40 - v2
  case neg =>
    have hY : wpY_store (fun r' v' => r' = -2 ∧ i_Rel (k + 5) (bl, st, lo, ru, ac, sc, me, on, pa, fi, la, ki, sk, hi, bS, bZ, bW, bM, kM, kA, kN, kB, kF, ob) v') (ac, sc, kp, me, od, on, fi, le, ki, pa, sk, hi, mM, mA, mN, mB, mF) v1 v2 v3 := by
      unfold wpY_store
      exact wu_yz1 hz (br_t rfl (br_f c0 (br_f c1 ⟨rfl, wu_mk hup⟩)))
    unfold wpX_store
    exact wu_xz1 hz (br_f wu_l10 (wu_xf0 (Or.inr (Int32.not_le.mp c1)) (br_t rfl hY)))
  obtain ⟨s, es, hs⟩ := wu_szN hz
  subst es
  obtain ⟨a, ea, ha⟩ := wu_ft hs c0 c1
  subst ea
  obtain ⟨m, c, u', v', k1, k2, k5, k6⟩ := wu_write (v := v3) (ac := ac) (me := me) (sk := sk) (hi := hi) (ob := ob) (od := od) h (by omega) ha hs
  have hR : i_Rel (k + 5) u' v' := wu_R_up (by omega) k1
  obtain ⟨bl1, st1, lo1, ru1, ac1, sc1, me1, on1, pa1, fi1, la1, ki1, sk1, hi1, bS1, bZ1, bW1, bM1, kM1, kA1, kN1, kB1, kF1, ob1⟩ := u'
  obtain ⟨ac2, sc2, kp2, me2, od2, on2, fi2, le2, ki2, pa2, sk2, hi2, mM2, mA2, mN2, mB2, mF2⟩ := v'
  have hY : wpY_store (fun r' v' => r' = c ∧ i_Rel (k + 5) (bl1, st1, lo1, ru1, ac1, sc1, me1, on1, pa1, fi1, la1, ki1, sk1, hi1, bS1, bZ1, bW1, bM1, kM1, kA1, kN1, kB1, kF1, ob1) v') (ac, sc, kp, me, od, on, fi, le, ki, pa, sk, hi, mM, mA, mN, mB, mF) (nI a) (nI s) v3 := by
    unfold wpY_store
    refine wu_yz1 hz (br_t rfl (br_f c0 (br_t c1 (k6 _ ⟨9, ?_⟩))))
    exact wu_ys41 ⟨k2.symm, hR⟩ 8 0 rfl
  unfold wpX_store
  refine wu_xz1 hz (br_f wu_l10 (wu_xf1 c0 (Int32.not_lt.mpr c1) (br_f wu_l10 (wu_xr ha (by omega) ⟨s + 1, ?_⟩))))
  exact wu_xs29 ha (by omega) (k5 _ hY) s 0 (by omega)
theorem i_vc_sweep {k : Nat} {u : SX} {v : SY} (I : i_Rel k u v) (hk : k + 5 ≤ 2560) (v1 : Int32) (v2 : Int32) : wpX_sweep (fun r u' => wpY_sweep (fun r' v' => r' = r ∧ i_Rel (k + 5) u' v') v v1 v2) u v1 v2 := by
  refine wu_el (P := fun u v => wpX_sweep (fun r u' => wpY_sweep (fun r' v' => r' = r ∧ i_Rel (k + 5) u' v') v v1 v2) u v1 v2) ?_ I
  intro bl st lo ru ac sc kp me on pa fi la ki sk hi bS bZ bW bM kM kA kN kB kF ob od le mM mA mN mB mF h
  have hup := wu_rel_up (show 4 * k ≤ 4 * (k + 5) by omega) h
  by_cases c0 : v1 < 0
  · have hY : wpY_sweep (fun r' v' => r' = -1 ∧ i_Rel (k + 5) (bl, st, lo, ru, ac, sc, me, on, pa, fi, la, ki, sk, hi, bS, bZ, bW, bM, kM, kA, kN, kB, kF, ob) v') (ac, sc, kp, me, od, on, fi, le, ki, pa, sk, hi, mM, mA, mN, mB, mF) v1 v2 := by
      unfold wpY_sweep
      exact br_t c0 ⟨rfl, wu_mk hup⟩
    unfold wpX_sweep
    exact br_t c0 hY
  by_cases c1 : 40 ≤ v2
  · have c1' : 39 < v2 := Int32.lt_of_lt_of_le (by decide) c1
    have hY : wpY_sweep (fun r' v' => r' = -1 ∧ i_Rel (k + 5) (bl, st, lo, ru, ac, sc, me, on, pa, fi, la, ki, sk, hi, bS, bZ, bW, bM, kM, kA, kN, kB, kF, ob) v') (ac, sc, kp, me, od, on, fi, le, ki, pa, sk, hi, mM, mA, mN, mB, mF) v1 v2 := by
      unfold wpY_sweep
      exact br_f c0 (br_t c1' ⟨rfl, wu_mk hup⟩)
    unfold wpX_sweep
    exact br_f c0 (br_t c1 hY)
  have c1' : ¬ 39 < v2 := by
    intro g
    rw [Int32.lt_iff_toInt_lt, show (39 : Int32).toInt = 39 from by decide] at g
    rw [Int32.le_iff_toInt_le, show (40 : Int32).toInt = 40 from by decide] at c1
    omega
  by_cases c2 : v1 ≤ v2
  case neg =>
    have hY : wpY_sweep (fun r' v' => r' = -1 ∧ i_Rel (k + 5) (bl, st, lo, ru, ac, sc, me, on, pa, fi, la, ki, sk, hi, bS, bZ, bW, bM, kM, kA, kN, kB, kF, ob) v') (ac, sc, kp, me, od, on, fi, le, ki, pa, sk, hi, mM, mA, mN, mB, mF) v1 v2 := by
      unfold wpY_sweep
      exact br_f c0 (br_f c1' (br_f c2 ⟨rfl, wu_mk hup⟩))
    unfold wpX_sweep
    exact br_f c0 (br_f c1 (br_f c2 hY))
  obtain ⟨a, ha, ea⟩ := nI_of c0
  subst ea
  have c3 : ¬ v2 < 0 := fun g => c0 (Int32.lt_of_le_of_lt c2 g)
  obtain ⟨t, ht, et⟩ := nI_of c3
  subst et
  have ht40 : t < 40 := by
    apply Nat.lt_of_not_le
    intro g
    exact c1 (nI_le (a := 40) g ht)
  have hat : a ≤ t := (nI_leI ha ht).mp c2
  obtain ⟨r, u', v', j1, j2, j3⟩ := wu_sw (t := t) (sc0 := sc) ht40 40 a (4 * k) 0 (bl, st, lo, ru, ac, sc, me, on, pa, fi, la, ki, sk, hi, bS, bZ, bW, bM, kM, kA, kN, kB, kF, ob) (ac, sc, kp, me, od, on, fi, le, ki, pa, sk, hi, mM, mA, mN, mB, mF) (by omega) (by omega) (by omega) (wu_mk h) (Int32.add_zero sc).symm
  have hR : i_Rel (k + 5) u' v' := wu_R_up (by omega) j1
  have hY : wpY_sweep (fun r' v' => r' = r ∧ i_Rel (k + 5) u' v') (ac, sc, kp, me, od, on, fi, le, ki, pa, sk, hi, mM, mA, mN, mB, mF) (nI a) (nI t) := by
    unfold wpY_sweep
    exact br_f c0 (br_f c1' (br_t c2 ⟨41, j3 (fun r' v' => r' = r ∧ i_Rel (k + 5) u' v') ⟨rfl, hR⟩⟩))
  unfold wpX_sweep
  exact br_f c0 (br_f c1 (br_t c2 ⟨41, j2 (fun r u' => wpY_sweep (fun r' v' => r' = r ∧ i_Rel (k + 5) u' v') (ac, sc, kp, me, od, on, fi, le, ki, pa, sk, hi, mM, mA, mN, mB, mF) (nI a) (nI t)) hY⟩))
end
