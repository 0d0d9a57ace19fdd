section
/-! rows of kit/rows/PURE-ROWS (starting text), as far as needed -/
theorem pk_us {f : Nat → Int32} {k : Nat} {x : Int32} : upd f k x k = x := if_pos rfl
theorem pk_un {f : Nat → Int32} {k j : Nat} {x : Int32} (h : j ≠ k) : upd f k x j = f j := if_neg h
theorem pk_uLs {f : Nat → Int64} {k : Nat} {x : Int64} : vp_updL f k x k = x := if_pos rfl
theorem pk_uLn {f : Nat → Int64} {k j : Nat} {x : Int64} (h : j ≠ k) : vp_updL f k x j = f j := if_neg h
theorem pk_sub {a b : Nat} (h : b ≤ a) : nI a - nI b = nI (a - b) := by
  obtain ⟨c, rfl⟩ : ∃ c, a = c + b := ⟨a - b, by omega⟩
  rw [← nI_add, Int32.add_sub_cancel, Nat.add_sub_cancel]
theorem pk_m1 (n : Nat) : nI (n + 1) + (-1) = nI n := by
  rw [← nI_1, Int32.add_assoc, show (1 : Int32) + (-1) = 0 from rfl, Int32.add_zero]
theorem pk_mul (a b : Nat) : nI a * nI b = nI (a * b) := (Int32.ofNat_mul a b).symm
theorem pk_div {a d : Nat} (ha : a < 2 ^ 31) (h0 : 0 < d) (hd : d < 2 ^ 31) : nI a / nI d = nI (a / d) := by
  apply Int32.toInt_inj.mp
  rw [lg_idiv_nonneg (by rw [nI_toInt ha]; omega) (by rw [nI_toInt hd]; omega), nI_toInt ha, nI_toInt hd, nI_toInt (Nat.lt_of_le_of_lt (Nat.div_le_self a d) ha)]
  first | rfl | exact (Int.natCast_ediv _ _).symm
theorem pk_rem {a d : Nat} (ha : a < 2 ^ 31) (h0 : 0 < d) (hd : d < 2 ^ 31) : nI a - nI a / nI d * nI d = nI (a % d) := by
  rw [pk_div ha h0 hd, pk_mul, pk_sub (Nat.div_mul_le_self a d)]
  exact congrArg nI (by have := Nat.div_add_mod' a d; omega)
theorem pk_sub_toInt {a b : Nat} (ha : a < 2 ^ 30) (hb : b < 2 ^ 30) : (nI a - nI b).toInt = (a : Int) - b := by
  rw [Int32.toInt_sub, nI_toInt (by omega), nI_toInt (by omega)]
  exact Int.bmod_eq_of_le (by omega) (by omega)
theorem pk_sneg {a b : Nat} (hb : b < 2 ^ 30) (h : a < b) : nI a - nI b < 0 := by
  rw [Int32.lt_iff_toInt_lt, pk_sub_toInt (by omega) hb, show (0 : Int32).toInt = 0 from by decide]
  omega
theorem pk_ix (x : Int32) {n : Nat} (hn : n < 2 ^ 31) : x < 0 ∨ nI n ≤ x ∨ ∃ j : Nat, j < n ∧ x = nI j := by
  by_cases h : x < 0
  · exact Or.inl h
  · obtain ⟨j, hj, rfl⟩ := nI_of h
    by_cases h2 : j < n
    · exact Or.inr (Or.inr ⟨j, h2, rfl⟩)
    · exact Or.inr (Or.inl (nI_le (by omega) hj))
theorem pk_le {x y : Int32} {A B : Prop} (a b : Nat) (f : a ≤ b → A) (g : b < a → B) (hx : x = nI a := by rfl) (hy : y = nI b := by rfl) (ha : a < 2 ^ 31 := by omega) (hb : b < 2 ^ 31 := by omega) : (x ≤ y → A) ∧ (¬ x ≤ y → B) := by
  subst hx hy
  rw [nI_leI ha hb]
  exact ⟨f, fun z => g (by omega)⟩
theorem pk_lt {x y : Int32} {A B : Prop} (a b : Nat) (f : a < b → A) (g : b ≤ a → B) (hx : x = nI a := by rfl) (hy : y = nI b := by rfl) (ha : a < 2 ^ 31 := by omega) (hb : b < 2 ^ 31 := by omega) : (x < y → A) ∧ (¬ x < y → B) := by
  subst hx hy
  rw [nI_ltI ha hb]
  exact ⟨f, fun z => g (by omega)⟩
theorem pk_eq {x y : Int32} {A B : Prop} (a b : Nat) (f : a = b → A) (g : a ≠ b → B) (hx : x = nI a := by rfl) (hy : y = nI b := by rfl) (ha : a < 2 ^ 31 := by omega) (hb : b < 2 ^ 31 := by omega) : (x = y → A) ∧ (¬ x = y → B) := by
  subst hx hy
  rw [nI_eq ha hb]
  exact ⟨f, g⟩
theorem pk_in {x : Int32} (n N : Nat) (h : n < N) (hx : x = nI n := by rfl) (hN : N < 2 ^ 31 := by omega) : vp_in x N := by
  subst hx
  exact vp_in_nI h hN
theorem pk_cl {x : Int32} (n : Nat) (hx : x = nI n := by rfl) (h : n < 2 ^ 31 := by omega) : x.toNatClampNeg = n := by
  subst hx
  exact nI_clamp h
theorem pk_tn {n : Nat} (h : n < 2 ^ 32) : (nI n).toBitVec.toNat = n := Nat.mod_eq_of_lt h
theorem pk_and (x : Int32) {m : Int32} (k : Nat) (hm : m.toBitVec.toNat = 2 ^ k - 1) : x &&& m = nI (x.toBitVec.toNat % 2 ^ k) := by
  apply Int32.toBitVec_inj.mp
  apply BitVec.eq_of_toNat_eq
  rw [Int32.toBitVec_and, BitVec.toNat_and, hm, Nat.and_two_pow_sub_one_eq_mod]
  show _ = (BitVec.ofNat 32 _).toNat
  rw [BitVec.toNat_ofNat]
  exact (Nat.mod_eq_of_lt (Nat.lt_of_le_of_lt (Nat.mod_le _ _) x.toBitVec.isLt)).symm
theorem pk_andN {n : Nat} (h : n < 2 ^ 32) {m : Int32} (k : Nat) (hm : m.toBitVec.toNat = 2 ^ k - 1) : nI n &&& m = nI (n % 2 ^ k) := by
  rw [pk_and _ k hm, pk_tn h]
theorem pk_andE (x : Int32) {m : Int32} (k : Nat) (hm : m.toBitVec.toNat = 2 ^ k - 1) : ∃ j : Nat, j < 2 ^ k ∧ x &&& m = nI j := ⟨_, Nat.mod_lt _ (Nat.two_pow_pos k), pk_and x k hm⟩
theorem pk_andIn (x : Int32) {m : Int32} (k : Nat) (hm : m.toBitVec.toNat = 2 ^ k - 1) (hk : k ≤ 30) : vp_in (x &&& m) (2 ^ k) := by
  obtain ⟨j, hj, e⟩ := pk_andE x k hm
  rw [e]
  exact vp_in_nI hj (Nat.lt_of_le_of_lt (Nat.pow_le_pow_right (by decide) hk) (by decide))
theorem pk_shl (a s : Int32) (k : Nat) (hs : (s.toBitVec.smod 32).toNat = k) : (a <<< s).toBitVec.toNat = a.toBitVec.toNat * 2 ^ k % 2 ^ 32 := by
  show (a.toBitVec <<< (s.toBitVec.smod 32).toNat).toNat = _
  rw [hs, BitVec.toNat_shiftLeft, Nat.shiftLeft_eq]
theorem pk_shlN {n : Nat} (s : Int32) (k : Nat) (hs : (s.toBitVec.smod 32).toNat = k) (h : n * 2 ^ k < 2 ^ 32) : nI n <<< s = nI (n * 2 ^ k) := by
  apply Int32.toBitVec_inj.mp
  apply BitVec.eq_of_toNat_eq
  have hn : n < 2 ^ 32 := Nat.lt_of_le_of_lt (Nat.le_mul_of_pos_right n (Nat.two_pow_pos k)) h
  rw [pk_shl _ _ k hs, pk_tn hn, pk_tn h, Nat.mod_eq_of_lt h]
theorem pk_shr (a s : Int32) (k : Nat) (hs : (s.toBitVec.smod 32).toNat = k) : (a >>> s).toInt = a.toInt >>> k := by
  show (a.toBitVec.sshiftRight (s.toBitVec.smod 32).toNat).toInt = _
  rw [hs, BitVec.toInt_sshiftRight]
  rfl
theorem pk_shrN {n : Nat} (h : n < 2 ^ 31) (s : Int32) (k : Nat) (hs : (s.toBitVec.smod 32).toNat = k) : nI n >>> s = nI (n / 2 ^ k) := by
  apply Int32.toInt_inj.mp
  have h2 : n / 2 ^ k ≤ n := Nat.div_le_self _ _
  rw [pk_shr _ _ k hs, nI_toInt h, nI_toInt (by omega), Int.shiftRight_eq_div_pow]
  rfl
theorem pk_ushr (x s : Int32) (k : Nat) (hs : ((s.toUInt32 &&& Int32.toUInt32 31).toBitVec % 32).toNat = k) : (x.toUInt32 >>> (s.toUInt32 &&& Int32.toUInt32 31)).toInt32.toBitVec.toNat = x.toBitVec.toNat / 2 ^ k := by
  have e : (x.toUInt32 >>> (s.toUInt32 &&& Int32.toUInt32 31)).toInt32.toBitVec = x.toBitVec >>> k := by
    rw [← hs]
    exact UInt32.toBitVec_shiftRight _ _
  rw [e, BitVec.toNat_ushiftRight, Nat.shiftRight_eq_div_pow]
theorem pk_ushrN {n : Nat} (hn : n < 2 ^ 32) (s : Int32) (k : Nat) (hs : ((s.toUInt32 &&& Int32.toUInt32 31).toBitVec % 32).toNat = k) : ((nI n).toUInt32 >>> (s.toUInt32 &&& Int32.toUInt32 31)).toInt32 = nI (n / 2 ^ k) := by
  apply Int32.toBitVec_inj.mp
  apply BitVec.eq_of_toNat_eq
  rw [pk_ushr _ s k hs, pk_tn hn, pk_tn (Nat.lt_of_le_of_lt (Nat.div_le_self _ _) hn)]
end
section
/-! the pure machine: state (values, registers, holders, places) -/
def mm_un (f : Nat → Nat) (k x : Nat) : Nat → Nat := fun j => if j = k then x else f j
def mm_nD (f : Nat → Nat) : Nat → Int32 := fun j => nI (f j)
abbrev MSt : Type := (Nat → Int32) × (Nat → Int32) × (Nat → Int32) × (Nat → Nat)
theorem mm_us (f : Nat → Nat) (k x : Nat) : mm_un f k x k = x := if_pos rfl
theorem mm_ud {f : Nat → Nat} {k x j : Nat} (h : j ≠ k) : mm_un f k x j = f j := if_neg h
theorem mm_nDa (f : Nat → Nat) (j : Nat) : mm_nD f j = nI (f j) := rfl
theorem mm_upd_nD (f : Nat → Nat) (k x : Nat) : upd (mm_nD f) k (nI x) = mm_nD (mm_un f k x) := by
  funext j
  by_cases h : j = k
  · subst h; rw [pk_us, mm_nDa, mm_us]
  · rw [pk_un h, mm_nDa, mm_nDa, mm_ud h]
theorem mm_upd_id {f : Nat → Int32} {k : Nat} {x : Int32} (h : f k = x) : upd f k x = f := by
  funext j
  by_cases e : j = k
  · subst e; rw [pk_us, h]
  · rw [pk_un e]
theorem mm_upd2 (f : Nat → Int32) (k : Nat) (x y : Int32) : upd (upd f k x) k y = upd f k y := by
  funext j
  by_cases e : j = k
  · subst e; rw [pk_us, pk_us]
  · rw [pk_un e, pk_un e, pk_un e]
theorem mm_updc {f : Nat → Int32} {k j : Nat} {x y : Int32} (h : k ≠ j) : upd (upd f k x) j y = upd (upd f j y) k x := by
  funext i
  by_cases e : i = j
  · subst e; rw [pk_us, pk_un (Ne.symm h), pk_us]
  · by_cases e2 : i = k
    · subst e2; rw [pk_un e, pk_us, pk_us]
    · rw [pk_un e, pk_un e2, pk_un e2, pk_un e]
theorem mm_un_id {f : Nat → Nat} {k x : Nat} (h : f k = x) : mm_un f k x = f := by
  funext j
  by_cases e : j = k
  · subst e; rw [mm_us, h]
  · rw [mm_ud e]
theorem mm_un2 (f : Nat → Nat) (k : Nat) (x y : Nat) : mm_un (mm_un f k x) k y = mm_un f k y := by
  funext j
  by_cases e : j = k
  · subst e; rw [mm_us, mm_us]
  · rw [mm_ud e, mm_ud e, mm_ud e]
theorem mm_unc {f : Nat → Nat} {k j : Nat} {x y : Nat} (h : k ≠ j) : mm_un (mm_un f k x) j y = mm_un (mm_un f j y) k x := by
  funext i
  by_cases e : i = j
  · subst e; rw [mm_us, mm_ud (Ne.symm h), mm_us]
  · by_cases e2 : i = k
    · subst e2; rw [mm_ud e, mm_us, mm_us]
    · rw [mm_ud e, mm_ud e2, mm_ud e2, mm_ud e]
/-- kinds and numbers of an operation -/
def mm_K (k x : Int32) : Prop := (k = 0 ∧ (x = 0 ∨ x = 1)) ∨ (k = 1 ∧ (x = 0 ∨ x = 1)) ∨ k = 2 ∨ (k = 3 ∧ (x = 0 ∨ x = 1)) ∨ (k = 4 ∧ (x = 0 ∨ x = 1))
/-- a well-formed program -/
def mm_P (z : Nat → Nat) (kd nm : Nat → Int32) : Prop :=
  (∀ t, t < 3 → z t ≤ 4) ∧ z 0 + z 1 + z 2 ≤ 8 ∧ ∀ t p, t < 3 → p < z t → mm_K (kd (4 * t + p)) (nm (4 * t + p))
def mm_stp (kd nm : Nat → Int32) (t : Nat) (s : MSt) : MSt :=
  if kd (4 * t + s.2.2.2 t) = 0 then (s.1, upd s.2.1 t (s.1 (nm (4 * t + s.2.2.2 t)).toNatClampNeg), s.2.2.1, mm_un s.2.2.2 t (s.2.2.2 t + 1))
  else if kd (4 * t + s.2.2.2 t) = 1 then (upd s.1 (nm (4 * t + s.2.2.2 t)).toNatClampNeg (s.2.1 t), s.2.1, s.2.2.1, mm_un s.2.2.2 t (s.2.2.2 t + 1))
  else if kd (4 * t + s.2.2.2 t) = 2 then (s.1, upd s.2.1 t (s.2.1 t + nm (4 * t + s.2.2.2 t)), s.2.2.1, mm_un s.2.2.2 t (s.2.2.2 t + 1))
  else if kd (4 * t + s.2.2.2 t) = 3 then (s.1, s.2.1, upd s.2.2.1 (nm (4 * t + s.2.2.2 t)).toNatClampNeg (nI t), mm_un s.2.2.2 t (s.2.2.2 t + 1))
  else (s.1, s.2.1, upd s.2.2.1 (nm (4 * t + s.2.2.2 t)).toNatClampNeg (-1), mm_un s.2.2.2 t (s.2.2.2 t + 1))
/-- what is overwritten -/
def mm_old (kd nm : Nat → Int32) (t : Nat) (s : MSt) : Int32 :=
  if kd (4 * t + s.2.2.2 t) = 1 then s.1 (nm (4 * t + s.2.2.2 t)).toNatClampNeg else s.2.1 t
def mm_en (z : Nat → Nat) (kd nm : Nat → Int32) (t : Nat) (s : MSt) : Bool :=
  decide (s.2.2.2 t ≠ z t ∧ (kd (4 * t + s.2.2.2 t) = 3 → s.2.2.1 (nm (4 * t + s.2.2.2 t)).toNatClampNeg = -1) ∧ (kd (4 * t + s.2.2.2 t) = 4 → s.2.2.1 (nm (4 * t + s.2.2.2 t)).toNatClampNeg = nI t))
theorem mm_en_iff {z : Nat → Nat} {kd nm : Nat → Int32} {t : Nat} {s : MSt} : mm_en z kd nm t s = true ↔ (s.2.2.2 t ≠ z t ∧ (kd (4 * t + s.2.2.2 t) = 3 → s.2.2.1 (nm (4 * t + s.2.2.2 t)).toNatClampNeg = -1) ∧ (kd (4 * t + s.2.2.2 t) = 4 → s.2.2.1 (nm (4 * t + s.2.2.2 t)).toNatClampNeg = nI t)) := decide_eq_true_iff
/-- whether thread t, d operations done, holds lock m -/
def mm_lk (kd nm : Nat → Int32) (t : Nat) (m : Nat) : Nat → Bool
  | 0 => false
  | d + 1 => if kd (4 * t + d) = 3 ∧ (nm (4 * t + d)).toNatClampNeg = m then true else if kd (4 * t + d) = 4 ∧ (nm (4 * t + d)).toNatClampNeg = m then false else mm_lk kd nm t m d
def mm_W (z : Nat → Nat) (kd nm : Nat → Int32) (s : MSt) : Prop :=
  (∀ t, t < 3 → s.2.2.2 t ≤ z t) ∧ (∀ m, m < 2 → s.2.2.1 m = -1 ∨ ∃ t, t < 3 ∧ s.2.2.1 m = nI t) ∧ (∀ i, 2 ≤ i → s.1 i = 0 ∧ s.2.2.1 i = 0) ∧ (∀ i, 3 ≤ i → s.2.1 i = 0 ∧ s.2.2.2 i = 0) ∧ (∀ m t, m < 2 → t < 3 → (s.2.2.1 m = nI t ↔ mm_lk kd nm t m (s.2.2.2 t) = true))
section
variable {z : Nat → Nat} {kd nm : Nat → Int32} {t : Nat} {s : MSt}
theorem mm_stp0 (h : kd (4 * t + s.2.2.2 t) = 0) : mm_stp kd nm t s = (s.1, upd s.2.1 t (s.1 (nm (4 * t + s.2.2.2 t)).toNatClampNeg), s.2.2.1, mm_un s.2.2.2 t (s.2.2.2 t + 1)) := by
  unfold mm_stp; rw [if_pos h]
theorem mm_stp1 (h : kd (4 * t + s.2.2.2 t) = 1) : mm_stp kd nm t s = (upd s.1 (nm (4 * t + s.2.2.2 t)).toNatClampNeg (s.2.1 t), s.2.1, s.2.2.1, mm_un s.2.2.2 t (s.2.2.2 t + 1)) := by
  unfold mm_stp; rw [if_neg (by rw [h]; decide), if_pos h]
theorem mm_stp2 (h : kd (4 * t + s.2.2.2 t) = 2) : mm_stp kd nm t s = (s.1, upd s.2.1 t (s.2.1 t + nm (4 * t + s.2.2.2 t)), s.2.2.1, mm_un s.2.2.2 t (s.2.2.2 t + 1)) := by
  unfold mm_stp; rw [if_neg (by rw [h]; decide), if_neg (by rw [h]; decide), if_pos h]
theorem mm_stp3 (h : kd (4 * t + s.2.2.2 t) = 3) : mm_stp kd nm t s = (s.1, s.2.1, upd s.2.2.1 (nm (4 * t + s.2.2.2 t)).toNatClampNeg (nI t), mm_un s.2.2.2 t (s.2.2.2 t + 1)) := by
  unfold mm_stp; rw [if_neg (by rw [h]; decide), if_neg (by rw [h]; decide), if_neg (by rw [h]; decide), if_pos h]
theorem mm_stp4 (h : kd (4 * t + s.2.2.2 t) = 4) : mm_stp kd nm t s = (s.1, s.2.1, upd s.2.2.1 (nm (4 * t + s.2.2.2 t)).toNatClampNeg (-1), mm_un s.2.2.2 t (s.2.2.2 t + 1)) := by
  unfold mm_stp; rw [if_neg (by rw [h]; decide), if_neg (by rw [h]; decide), if_neg (by rw [h]; decide), if_neg (by rw [h]; decide)]
theorem mm_stpD : (mm_stp kd nm t s).2.2.2 = mm_un s.2.2.2 t (s.2.2.2 t + 1) := by
  unfold mm_stp; repeat' split
  all_goals rfl
theorem mm_c0 : (0 : Int32).toNatClampNeg = 0 := by decide
theorem mm_c1 : (1 : Int32).toNatClampNeg = 1 := by decide
theorem mm_cl {x : Int32} (h : x = 0 ∨ x = 1) : x.toNatClampNeg < 2 := by
  rcases h with rfl | rfl
  · decide
  · decide
theorem mm_nIm {t : Nat} (ht : t < 3) : ¬ (-1 : Int32) = nI t := by
  rcases (by omega : t = 0 ∨ t = 1 ∨ t = 2) with rfl | rfl | rfl <;> decide
theorem mm_nIe {t u : Nat} (ht : t < 3) (hu : u < 3) : nI t = nI u ↔ t = u := nI_eq (by omega) (by omega)
/-- a lock step in the table of who holds -/
theorem mm_lk_keep {m d : Nat} (h3 : kd (4 * t + d) ≠ 3) (h4 : kd (4 * t + d) ≠ 4) : mm_lk kd nm t m (d + 1) = mm_lk kd nm t m d := by
  rw [mm_lk, if_neg (fun h => h3 h.1), if_neg (fun h => h4 h.1)]
theorem mm_lk_oth {m d : Nat} (h : (nm (4 * t + d)).toNatClampNeg ≠ m) : mm_lk kd nm t m (d + 1) = mm_lk kd nm t m d := by
  rw [mm_lk, if_neg (fun z => h z.2), if_neg (fun z => h z.2)]
theorem mm_lk_on {m d : Nat} (h3 : kd (4 * t + d) = 3) (h : (nm (4 * t + d)).toNatClampNeg = m) : mm_lk kd nm t m (d + 1) = true := by
  rw [mm_lk, if_pos ⟨h3, h⟩]
theorem mm_lk_off {m d : Nat} (h4 : kd (4 * t + d) = 4) (h : (nm (4 * t + d)).toNatClampNeg = m) : mm_lk kd nm t m (d + 1) = false := by
  rw [mm_lk, if_neg (fun z => by rw [h4] at z; exact absurd z.1 (by decide)), if_pos ⟨h4, h⟩]
theorem mm_lt (hW : mm_W z kd nm s) (ht : t < 3) (he : mm_en z kd nm t s = true) : s.2.2.2 t < z t := by
  have := (mm_en_iff.mp he).1
  have := hW.1 t ht
  omega
theorem mm_Kt (hP : mm_P z kd nm) (hW : mm_W z kd nm s) (ht : t < 3) (he : mm_en z kd nm t s = true) : mm_K (kd (4 * t + s.2.2.2 t)) (nm (4 * t + s.2.2.2 t)) :=
  hP.2.2 t _ ht (mm_lt hW ht he)
/-- the parts of mm_W that a step of a thread touches, with the new holders given -/
theorem mm_Wk {V' R' H' : Nat → Int32} (hW : mm_W z kd nm s) (ht : t < 3) (hl : s.2.2.2 t < z t)
    (hV : ∀ i, 2 ≤ i → V' i = 0) (hR : ∀ i, 3 ≤ i → R' i = 0) (hH0 : ∀ i, 2 ≤ i → H' i = 0)
    (hH : ∀ m, m < 2 → H' m = -1 ∨ ∃ t, t < 3 ∧ H' m = nI t)
    (hL : ∀ m, m < 2 → (H' m = nI t ↔ mm_lk kd nm t m (s.2.2.2 t + 1) = true))
    (hO : ∀ m u, m < 2 → u < 3 → u ≠ t → (H' m = nI u ↔ s.2.2.1 m = nI u)) :
    mm_W z kd nm (V', R', H', mm_un s.2.2.2 t (s.2.2.2 t + 1)) := by
  refine ⟨?_, hH, fun i hi => ⟨hV i hi, hH0 i hi⟩, fun i hi => ⟨hR i hi, ?_⟩, ?_⟩
  · intro u hu
    show mm_un s.2.2.2 t (s.2.2.2 t + 1) u ≤ z u
    by_cases e : u = t
    · subst e; rw [mm_us]; omega
    · rw [mm_ud e]; exact hW.1 u hu
  · show mm_un s.2.2.2 t (s.2.2.2 t + 1) i = 0
    rw [mm_ud (by omega)]; exact (hW.2.2.2.1 i hi).2
  · intro m u hm hu
    show H' m = nI u ↔ mm_lk kd nm u m (mm_un s.2.2.2 t (s.2.2.2 t + 1) u) = true
    by_cases e : u = t
    · subst e; rw [mm_us]; exact hL m hm
    · rw [mm_ud e, hO m u hm hu e]; exact hW.2.2.2.2 m u hm hu
theorem mm_W_stp (hP : mm_P z kd nm) (hW : mm_W z kd nm s) (ht : t < 3) (he : mm_en z kd nm t s = true) : mm_W z kd nm (mm_stp kd nm t s) := by
  have hl := mm_lt hW ht he
  have hE := mm_en_iff.mp he
  rcases mm_Kt hP hW ht he with ⟨hk, hx⟩ | ⟨hk, hx⟩ | hk | ⟨hk, hx⟩ | ⟨hk, hx⟩
  · rw [mm_stp0 hk]
    refine mm_Wk hW ht hl (fun i hi => (hW.2.2.1 i hi).1) (fun i hi => ?_) (fun i hi => (hW.2.2.1 i hi).2) hW.2.1 (fun m hm => ?_) (fun m u hm hu hn => Iff.rfl)
    · rw [pk_un (by omega)]; exact (hW.2.2.2.1 i hi).1
    · rw [mm_lk_keep (by rw [hk]; decide) (by rw [hk]; decide)]; exact hW.2.2.2.2 m t hm ht
  · rw [mm_stp1 hk]
    have hc := mm_cl hx
    refine mm_Wk hW ht hl (fun i hi => ?_) (fun i hi => (hW.2.2.2.1 i hi).1) (fun i hi => (hW.2.2.1 i hi).2) hW.2.1 (fun m hm => ?_) (fun m u hm hu hn => Iff.rfl)
    · rw [pk_un (by omega)]; exact (hW.2.2.1 i hi).1
    · rw [mm_lk_keep (by rw [hk]; decide) (by rw [hk]; decide)]; exact hW.2.2.2.2 m t hm ht
  · rw [mm_stp2 hk]
    refine mm_Wk hW ht hl (fun i hi => (hW.2.2.1 i hi).1) (fun i hi => ?_) (fun i hi => (hW.2.2.1 i hi).2) hW.2.1 (fun m hm => ?_) (fun m u hm hu hn => Iff.rfl)
    · rw [pk_un (by omega)]; exact (hW.2.2.2.1 i hi).1
    · rw [mm_lk_keep (by rw [hk]; decide) (by rw [hk]; decide)]; exact hW.2.2.2.2 m t hm ht
  · rw [mm_stp3 hk]
    have hc := mm_cl hx
    have hh := hE.2.1 hk
    refine mm_Wk hW ht hl (fun i hi => (hW.2.2.1 i hi).1) (fun i hi => (hW.2.2.2.1 i hi).1) (fun i hi => ?_) (fun m hm => ?_) (fun m hm => ?_) (fun m u hm hu hn => ?_)
    · rw [pk_un (by omega)]; exact (hW.2.2.1 i hi).2
    · by_cases e : m = (nm (4 * t + s.2.2.2 t)).toNatClampNeg
      · subst e; rw [pk_us]; exact Or.inr ⟨t, ht, rfl⟩
      · rw [pk_un e]; exact hW.2.1 m hm
    · by_cases e : m = (nm (4 * t + s.2.2.2 t)).toNatClampNeg
      · subst e; rw [pk_us, mm_lk_on hk rfl]; exact ⟨fun _ => rfl, fun _ => rfl⟩
      · rw [pk_un e, mm_lk_oth (Ne.symm e)]; exact hW.2.2.2.2 m t hm ht
    · by_cases e : m = (nm (4 * t + s.2.2.2 t)).toNatClampNeg
      · subst e; rw [pk_us, hh, mm_nIe ht hu]
        exact ⟨fun z => absurd z.symm hn, fun z => absurd z (mm_nIm hu)⟩
      · rw [pk_un e]
  · rw [mm_stp4 hk]
    have hc := mm_cl hx
    have hh := hE.2.2 hk
    refine mm_Wk hW ht hl (fun i hi => (hW.2.2.1 i hi).1) (fun i hi => (hW.2.2.2.1 i hi).1) (fun i hi => ?_) (fun m hm => ?_) (fun m hm => ?_) (fun m u hm hu hn => ?_)
    · rw [pk_un (by omega)]; exact (hW.2.2.1 i hi).2
    · by_cases e : m = (nm (4 * t + s.2.2.2 t)).toNatClampNeg
      · subst e; rw [pk_us]; exact Or.inl rfl
      · rw [pk_un e]; exact hW.2.1 m hm
    · by_cases e : m = (nm (4 * t + s.2.2.2 t)).toNatClampNeg
      · subst e; rw [pk_us, mm_lk_off hk rfl]; exact ⟨fun z => absurd z (mm_nIm ht), fun z => absurd z (by decide)⟩
      · rw [pk_un e, mm_lk_oth (Ne.symm e)]; exact hW.2.2.2.2 m t hm ht
    · by_cases e : m = (nm (4 * t + s.2.2.2 t)).toNatClampNeg
      · subst e; rw [pk_us, hh, mm_nIe ht hu]
        exact ⟨fun z => absurd z (mm_nIm hu), fun z => absurd z.symm hn⟩
      · rw [pk_un e]
/-- values, registers and places tell the state -/
theorem mm_ext {s s' : MSt} (hW : mm_W z kd nm s) (hW' : mm_W z kd nm s') (hV : ∀ i, i < 2 → s.1 i = s'.1 i) (hR : ∀ i, i < 3 → s.2.1 i = s'.2.1 i) (hD : ∀ i, i < 3 → s.2.2.2 i = s'.2.2.2 i) : s = s' := by
  obtain ⟨V, R, H, D⟩ := s
  obtain ⟨V', R', H', D'⟩ := s'
  have e1 : V = V' := by
    funext i
    by_cases h : i < 2
    · exact hV i h
    · exact (hW.2.2.1 i (by omega)).1.trans (hW'.2.2.1 i (by omega)).1.symm
  have e2 : R = R' := by
    funext i
    by_cases h : i < 3
    · exact hR i h
    · exact (hW.2.2.2.1 i (by omega)).1.trans (hW'.2.2.2.1 i (by omega)).1.symm
  have e3 : D = D' := by
    funext i
    by_cases h : i < 3
    · exact hD i h
    · exact (hW.2.2.2.1 i (by omega)).2.trans (hW'.2.2.2.1 i (by omega)).2.symm
  subst e1 e2 e3
  have e4 : H = H' := by
    funext i
    by_cases h : i < 2
    · rcases hW.2.1 i h with a | ⟨t, ht, a⟩
      · rcases hW'.2.1 i h with b | ⟨u, hu, b⟩
        · exact a.trans b.symm
        · have c := (hW.2.2.2.2 i u h hu).mpr ((hW'.2.2.2.2 i u h hu).mp b)
          exact c.trans b.symm
      · have c := (hW'.2.2.2.2 i t h ht).mpr ((hW.2.2.2.2 i t h ht).mp a)
        exact a.trans c.symm
    · exact (hW.2.2.1 i (by omega)).2.trans (hW'.2.2.1 i (by omega)).2.symm
  rw [e4]
end
end
section
/-! events: places, edges, closure, clocks -/
def mm_h0 : Nat → Int32 := upd (upd (fun _ => 0) 0 (-1)) 1 (-1)
def ev_S (kd nm bg : Nat → Int32) (ev : Nat → Nat) : Nat → MSt
  | 0 => (bg, fun _ => 0, mm_h0, fun _ => 0)
  | i + 1 => mm_stp kd nm (ev i) (ev_S kd nm bg ev i)
/-- how many of the first i events are thread t's -/
def ev_c (ev : Nat → Nat) (t : Nat) : Nat → Nat
  | 0 => 0
  | i + 1 => if ev i = t then ev_c ev t i + 1 else ev_c ev t i
def ev_o (ev : Nat → Nat) (i : Nat) : Nat := 4 * ev i + ev_c ev (ev i) i
def ev_Ok (z : Nat → Nat) (kd nm bg : Nat → Int32) (ev : Nat → Nat) (n : Nat) : Prop :=
  (∀ i, 2 ≤ i → bg i = 0) ∧ ∀ i, i < n → ev i < 3 ∧ mm_en z kd nm (ev i) (ev_S kd nm bg ev i) = true
section
variable {z : Nat → Nat} {kd nm bg : Nat → Int32} {ev ev' : Nat → Nat} {n : Nat}
theorem ev_c_s {t i : Nat} (h : ev i = t) : ev_c ev t (i + 1) = ev_c ev t i + 1 := by rw [ev_c, if_pos h]
theorem ev_c_o {t i : Nat} (h : ev i ≠ t) : ev_c ev t (i + 1) = ev_c ev t i := by rw [ev_c, if_neg h]
theorem ev_SD (i : Nat) : (ev_S kd nm bg ev i).2.2.2 = fun t => ev_c ev t i := by
  induction i with
  | zero => rfl
  | succ i ih =>
    rw [ev_S, mm_stpD, ih]
    funext t
    by_cases h : t = ev i
    · subst h; rw [mm_us, ev_c_s rfl]
    · rw [mm_ud h, ev_c_o (Ne.symm h)]
theorem ev_c_mono {t i j : Nat} (h : i ≤ j) : ev_c ev t i ≤ ev_c ev t j := by
  induction j with
  | zero => have : i = 0 := by omega
            subst this; exact Nat.le_refl _
  | succ j ih =>
    by_cases e : i = j + 1
    · subst e; exact Nat.le_refl _
    · have := ih (by omega)
      by_cases q : ev j = t
      · rw [ev_c_s q]; omega
      · rw [ev_c_o q]; exact this
theorem ev_c_lt {t i j : Nat} (h : i < j) (ht : ev i = t) : ev_c ev t i < ev_c ev t j := by
  have a : ev_c ev t (i + 1) ≤ ev_c ev t j := ev_c_mono h
  rw [ev_c_s ht] at a
  omega
theorem ev_c_le (t i : Nat) : ev_c ev t i ≤ i := by
  induction i with
  | zero => exact Nat.le_refl _
  | succ i ih =>
    by_cases q : ev i = t
    · rw [ev_c_s q]; omega
    · rw [ev_c_o q]; omega
theorem ev_c_ex {t p n : Nat} (h : p < ev_c ev t n) : ∃ i, i < n ∧ ev i = t ∧ ev_c ev t i = p := by
  induction n with
  | zero => exact absurd h (Nat.not_lt_zero _)
  | succ n ih =>
    by_cases q : ev n = t
    · rw [ev_c_s q] at h
      by_cases e : p = ev_c ev t n
      · exact ⟨n, by omega, q, e.symm⟩
      · obtain ⟨i, a, b, c⟩ := ih (by omega)
        exact ⟨i, by omega, b, c⟩
    · rw [ev_c_o q] at h
      obtain ⟨i, a, b, c⟩ := ih h
      exact ⟨i, by omega, b, c⟩
theorem ev_c_inj {t i j : Nat} (hi : ev i = t) (hj : ev j = t) (h : ev_c ev t i = ev_c ev t j) : i = j := by
  rcases Nat.lt_trichotomy i j with a | a | a
  · have := ev_c_lt a hi; omega
  · exact a
  · have := ev_c_lt a hj; omega
theorem ev_c_sum (h : ∀ i, i < n → ev i < 3) : ev_c ev 0 n + ev_c ev 1 n + ev_c ev 2 n = n := by
  induction n with
  | zero => rfl
  | succ n ih =>
    have a := ih (fun i hi => h i (by omega))
    rcases (by have := h n (by omega); omega : ev n = 0 ∨ ev n = 1 ∨ ev n = 2) with e | e | e
    · rw [ev_c_s e, ev_c_o (t := 1) (by omega), ev_c_o (t := 2) (by omega)]; omega
    · rw [ev_c_s e, ev_c_o (t := 0) (by omega), ev_c_o (t := 2) (by omega)]; omega
    · rw [ev_c_s e, ev_c_o (t := 0) (by omega), ev_c_o (t := 1) (by omega)]; omega
theorem ev_W0 (hb : ∀ i, 2 ≤ i → bg i = 0) : mm_W z kd nm (ev_S kd nm bg ev 0) := by
  refine ⟨fun t _ => Nat.zero_le _, fun m hm => Or.inl ?_, fun i hi => ⟨hb i hi, ?_⟩, fun i hi => ⟨rfl, rfl⟩, fun m t hm ht => ⟨fun h => ?_, fun h => absurd (show false = true from h) (by decide)⟩⟩
  · show mm_h0 m = -1
    rcases (by omega : m = 0 ∨ m = 1) with rfl | rfl <;> rfl
  · show mm_h0 i = 0
    unfold mm_h0
    rw [pk_un (by omega), pk_un (by omega)]
  · have h' : mm_h0 m = nI t := h
    rcases (by omega : m = 0 ∨ m = 1) with rfl | rfl
    · exact absurd (show (-1 : Int32) = nI t from h') (mm_nIm ht)
    · exact absurd (show (-1 : Int32) = nI t from h') (mm_nIm ht)
theorem ev_W (hP : mm_P z kd nm) (hO : ev_Ok z kd nm bg ev n) : ∀ i, i ≤ n → mm_W z kd nm (ev_S kd nm bg ev i) := by
  intro i
  induction i with
  | zero => exact fun _ => ev_W0 hO.1
  | succ i ih =>
    intro hi
    exact mm_W_stp hP (ih (by omega)) (hO.2 i (by omega)).1 (hO.2 i (by omega)).2
theorem ev_le (hP : mm_P z kd nm) (hO : ev_Ok z kd nm bg ev n) {t : Nat} (ht : t < 3) : ev_c ev t n ≤ z t := by
  have h := (ev_W hP hO n (Nat.le_refl _)).1 t ht
  rw [ev_SD] at h
  exact h
theorem ev_n8 (hP : mm_P z kd nm) (hO : ev_Ok z kd nm bg ev n) : n ≤ 8 := by
  have a := ev_c_sum (n := n) (fun i hi => (hO.2 i hi).1)
  have b := ev_le hP hO (t := 0) (by omega)
  have c := ev_le hP hO (t := 1) (by omega)
  have d := ev_le hP hO (t := 2) (by omega)
  have e := hP.2.1
  omega
/-- an event's place is within its thread's program -/
theorem ev_pl (hP : mm_P z kd nm) (hO : ev_Ok z kd nm bg ev n) {i : Nat} (hi : i < n) : ev_c ev (ev i) i < z (ev i) := by
  have a := mm_lt (ev_W hP hO i (by omega)) (hO.2 i hi).1 (hO.2 i hi).2
  rw [ev_SD] at a
  exact a
theorem ev_p4 (hP : mm_P z kd nm) (hO : ev_Ok z kd nm bg ev n) {i : Nat} (hi : i < n) : ev_c ev (ev i) i < 4 :=
  Nat.lt_of_lt_of_le (ev_pl hP hO hi) (hP.1 _ (hO.2 i hi).1)
theorem ev_o12 (hP : mm_P z kd nm) (hO : ev_Ok z kd nm bg ev n) {i : Nat} (hi : i < n) : ev_o ev i < 12 := by
  have a := ev_p4 hP hO hi
  have b := (hO.2 i hi).1
  unfold ev_o
  omega
theorem ev_o4 (hP : mm_P z kd nm) (hO : ev_Ok z kd nm bg ev n) {i : Nat} (hi : i < n) : ev_o ev i / 4 = ev i := by
  have a := ev_p4 hP hO hi
  unfold ev_o
  omega
theorem ev_K (hP : mm_P z kd nm) (hO : ev_Ok z kd nm bg ev n) {i : Nat} (hi : i < n) : mm_K (kd (ev_o ev i)) (nm (ev_o ev i)) :=
  hP.2.2 _ _ (hO.2 i hi).1 (ev_pl hP hO hi)
/-! another list of events that begins alike -/
theorem ev_c_cg (h : ∀ i, i < n → ev' i = ev i) (t : Nat) : ∀ i, i ≤ n → ev_c ev' t i = ev_c ev t i := by
  intro i
  induction i with
  | zero => exact fun _ => rfl
  | succ i ih =>
    intro hi
    rw [ev_c, ev_c, h i (by omega), ih (by omega)]
theorem ev_S_cg (h : ∀ i, i < n → ev' i = ev i) : ∀ i, i ≤ n → ev_S kd nm bg ev' i = ev_S kd nm bg ev i := by
  intro i
  induction i with
  | zero => exact fun _ => rfl
  | succ i ih =>
    intro hi
    rw [ev_S, ev_S, h i (by omega), ih (by omega)]
theorem ev_o_cg (h : ∀ i, i < n → ev' i = ev i) {i : Nat} (hi : i < n) : ev_o ev' i = ev_o ev i := by
  unfold ev_o
  rw [h i hi, ev_c_cg h _ i (by omega)]
theorem ev_Ok_cg (h : ∀ i, i < n → ev' i = ev i) (hO : ev_Ok z kd nm bg ev n) : ev_Ok z kd nm bg ev' n := by
  refine ⟨hO.1, fun i hi => ?_⟩
  rw [h i hi, ev_S_cg h i (by omega)]
  exact hO.2 i hi
end
/-! edges and their closure; b: by unlocks and locks (known), else by conflicts -/
def ev_cf (kd nm : Nat → Int32) (ev : Nat → Nat) (i j : Nat) : Prop :=
  ev i ≠ ev j ∧ nm (ev_o ev i) = nm (ev_o ev j) ∧ ((¬ kd (ev_o ev i) < 3 ∧ ¬ kd (ev_o ev j) < 3) ∨ (¬ 1 < kd (ev_o ev i) ∧ ¬ 1 < kd (ev_o ev j) ∧ (kd (ev_o ev i) = 1 ∨ kd (ev_o ev j) = 1)))
def ev_ho (kd nm : Nat → Int32) (ev : Nat → Nat) (i j : Nat) : Prop :=
  kd (ev_o ev i) = 4 ∧ kd (ev_o ev j) = 3 ∧ nm (ev_o ev i) = nm (ev_o ev j)
def ev_x (b : Bool) (kd nm : Nat → Int32) (ev : Nat → Nat) (i j : Nat) : Prop := match b with
  | true => ev_ho kd nm ev i j
  | false => ev_cf kd nm ev i j
def ev_E (b : Bool) (kd nm : Nat → Int32) (ev : Nat → Nat) (i j : Nat) : Prop := i < j ∧ (ev i = ev j ∨ ev_x b kd nm ev i j)
def ev_T (b : Bool) (kd nm : Nat → Int32) (ev : Nat → Nat) (i j : Nat) : Prop := Relation.TransGen (ev_E b kd nm ev) i j
def ev_C (b : Bool) (kd nm : Nat → Int32) (ev : Nat → Nat) (n : Nat) (ck : Nat → Nat) : Prop :=
  ∀ j, j < n → ∀ t, t < 3 → ∀ p, p < ck (3 * j + t) ↔ ∃ i, i ≤ j ∧ ev i = t ∧ ev_c ev t i = p ∧ (i = j ∨ ev_T b kd nm ev i j)
section
variable {z : Nat → Nat} {kd nm bg : Nat → Int32} {ev ev' : Nat → Nat} {n : Nat} {b : Bool}
theorem ev_T_lt {i j : Nat} (h : ev_T b kd nm ev i j) : i < j := by
  induction h with
  | single h => exact h.1
  | tail _ h ih => exact Nat.lt_trans ih h.1
theorem ev_T_s {i j : Nat} (h : ev_E b kd nm ev i j) : ev_T b kd nm ev i j := Relation.TransGen.single h
theorem ev_T_t {i j k : Nat} (h : ev_T b kd nm ev i j) (h2 : ev_T b kd nm ev j k) : ev_T b kd nm ev i k := Relation.TransGen.trans h h2
theorem ev_T_last {i j : Nat} (h : ev_T b kd nm ev i j) : ∃ k, ev_E b kd nm ev k j ∧ (i = k ∨ ev_T b kd nm ev i k) := by
  cases h with
  | single h => exact ⟨i, h, Or.inl rfl⟩
  | tail a h => exact ⟨_, h, Or.inr a⟩
theorem ev_E_cg (h : ∀ i, i < n → ev' i = ev i) {i j : Nat} (hj : j < n) : ev_E b kd nm ev' i j ↔ ev_E b kd nm ev i j := by
  unfold ev_E
  constructor
  · rintro ⟨a, c⟩
    refine ⟨a, ?_⟩
    rw [h i (by omega), h j hj] at c
    cases b <;> simp only [ev_x, ev_ho, ev_cf] at c ⊢ <;> rw [ev_o_cg h (i := i) (by omega), ev_o_cg h hj] at c
    · rw [h i (by omega), h j hj] at c; exact c
    · exact c
  · rintro ⟨a, c⟩
    refine ⟨a, ?_⟩
    rw [h i (by omega), h j hj]
    cases b <;> simp only [ev_x, ev_ho, ev_cf] at c ⊢ <;> rw [ev_o_cg h (i := i) (by omega), ev_o_cg h hj]
    · rw [h i (by omega), h j hj]; exact c
    · exact c
theorem ev_T_cg1 (h : ∀ i, i < n → ev' i = ev i) {i j : Nat} (hT : ev_T b kd nm ev' i j) : j < n → ev_T b kd nm ev i j := by
  induction hT with
  | single a => exact fun hj => ev_T_s ((ev_E_cg h hj).mp a)
  | tail _ a ih => exact fun hj => ev_T_t (ih (Nat.lt_trans a.1 hj)) (ev_T_s ((ev_E_cg h hj).mp a))
theorem ev_T_cg (h : ∀ i, i < n → ev' i = ev i) {i j : Nat} (hj : j < n) : ev_T b kd nm ev' i j ↔ ev_T b kd nm ev i j :=
  ⟨fun a => ev_T_cg1 h a hj, fun a => ev_T_cg1 (fun k hk => (h k hk).symm) a hj⟩
theorem ev_C_cg {ck ck' : Nat → Nat} (h : ∀ i, i < n → ev' i = ev i) (hc : ∀ k, k < 3 * n → ck' k = ck k) (hC : ev_C b kd nm ev n ck) : ev_C b kd nm ev' n ck' := by
  intro j hj t ht p
  rw [hc _ (by omega), hC j hj t ht p]
  constructor
  · rintro ⟨i, a, c, d, e⟩
    refine ⟨i, a, by rw [h i (by omega)]; exact c, by rw [ev_c_cg h t i (by omega)]; exact d, ?_⟩
    rw [ev_T_cg h hj]; exact e
  · rintro ⟨i, a, c, d, e⟩
    rw [h i (by omega)] at c
    rw [ev_c_cg h t i (by omega)] at d
    rw [ev_T_cg h hj] at e
    exact ⟨i, a, c, d, e⟩
theorem ev_C_mono {ck : Nat → Nat} {m : Nat} (h : m ≤ n) (hC : ev_C b kd nm ev n ck) : ev_C b kd nm ev m ck :=
  fun j hj => hC j (by omega)
theorem ev_C_le {ck : Nat → Nat} (hC : ev_C b kd nm ev n ck) {j t : Nat} (hj : j < n) (ht : t < 3) : ck (3 * j + t) ≤ j + 1 := by
  apply Nat.le_of_not_lt
  intro h
  obtain ⟨i, a, _, d, _⟩ := (hC j hj t ht (j + 1)).mp h
  have := ev_c_le (ev := ev) t i
  omega
/-- X's isBefore and isKnown -/
theorem ev_C_bef {ck : Nat → Nat} (hC : ev_C b kd nm ev n ck) {i j : Nat} (hj : j < n) (hi : ev i < 3) (hne : i ≠ j) : ev_c ev (ev i) i < ck (3 * j + ev i) ↔ ev_T b kd nm ev i j := by
  rw [hC j hj _ hi]
  constructor
  · rintro ⟨k, _, c, d, e⟩
    have : k = i := ev_c_inj c rfl d
    subst this
    exact e.resolve_left hne
  · intro h
    have := ev_T_lt h
    exact ⟨i, by omega, rfl, rfl, Or.inr h⟩
/-- the row of a new event -/
theorem ev_C_new {ck : Nat → Nat} (hC : ev_C b kd nm ev n ck) (hr : ∀ t, t < 3 → t ≠ ev n → ∀ p, p < ck (3 * n + t) ↔ ∃ i, i < n ∧ ev_E b kd nm ev i n ∧ p < ck (3 * i + t))
    (ho : ck (3 * n + ev n) = ev_c ev (ev n) n + 1) : ev_C b kd nm ev (n + 1) ck := by
  intro j hj t ht p
  by_cases e : j < n
  · exact hC j e t ht p
  · have : j = n := by omega
    subst this
    by_cases q : t = ev j
    · subst q
      rw [ho]
      constructor
      · intro h
        by_cases e2 : p = ev_c ev (ev j) j
        · exact ⟨j, Nat.le_refl _, rfl, e2.symm, Or.inl rfl⟩
        · obtain ⟨i, a, c, d⟩ := ev_c_ex (ev := ev) (t := ev j) (p := p) (n := j) (by omega)
          exact ⟨i, by omega, c, d, Or.inr (ev_T_s ⟨a, Or.inl c⟩)⟩
      · rintro ⟨i, a, c, d, _⟩
        have := ev_c_mono (ev := ev) (t := ev j) a
        omega
    · rw [hr t ht q]
      constructor
      · rintro ⟨i, a, c, d⟩
        obtain ⟨k, k1, k2, k3, k4⟩ := (hC i a t ht p).mp d
        refine ⟨k, by omega, k2, k3, Or.inr ?_⟩
        rcases k4 with rfl | k4
        · exact ev_T_s c
        · exact ev_T_t k4 (ev_T_s c)
      · rintro ⟨i, a, c, d, e2⟩
        rcases e2 with rfl | e2
        · exact absurd c.symm q
        · obtain ⟨k, k1, k2⟩ := ev_T_last e2
          refine ⟨k, k1.1, k1, (hC k k1.1 t ht p).mpr ⟨i, ?_, c, d, k2⟩⟩
          rcases k2 with rfl | k2
          · exact Nat.le_refl _
          · exact Nat.le_of_lt (ev_T_lt k2)
end
/-! Warshall by stages -/
def wa_W (E : Nat → Nat → Prop) : Nat → Nat → Nat → Prop
  | 0, i, j => E i j
  | k + 1, i, j => wa_W E k i j ∨ (wa_W E k i k ∧ wa_W E k k j)
section
variable {E : Nat → Nat → Prop}
theorem wa_col {k i : Nat} : wa_W E (k + 1) i k ↔ wa_W E k i k := ⟨fun h => h.elim id (fun a => a.1), Or.inl⟩
theorem wa_row {k j : Nat} : wa_W E (k + 1) k j ↔ wa_W E k k j := ⟨fun h => h.elim id (fun a => a.2), Or.inl⟩
theorem wa_E {i j : Nat} (h : E i j) : ∀ k, wa_W E k i j := by
  intro k
  induction k with
  | zero => exact h
  | succ k ih => exact Or.inl ih
theorem wa_tr : ∀ k i m j, m < k → wa_W E k i m → wa_W E k m j → wa_W E k i j := by
  intro k
  induction k with
  | zero => exact fun _ _ _ h => absurd h (Nat.not_lt_zero _)
  | succ k ih =>
    intro i m j hm h1 h2
    by_cases e : m = k
    · subst e
      exact Or.inr ⟨wa_col.mp h1, wa_row.mp h2⟩
    · have hm' : m < k := by omega
      rcases h1 with a | ⟨a, a'⟩
      · rcases h2 with c | ⟨c, c'⟩
        · exact Or.inl (ih i m j hm' a c)
        · exact Or.inr ⟨ih i m k hm' a c, c'⟩
      · rcases h2 with c | ⟨c, c'⟩
        · exact Or.inr ⟨a, ih k m j hm' a' c⟩
        · exact Or.inr ⟨a, c'⟩
theorem wa_T : ∀ k i j, wa_W E k i j → Relation.TransGen E i j := by
  intro k
  induction k with
  | zero => exact fun i j h => Relation.TransGen.single h
  | succ k ih =>
    intro i j h
    rcases h with a | ⟨a, c⟩
    · exact ih i j a
    · exact Relation.TransGen.trans (ih i k a) (ih k j c)
theorem wa_of {N i j : Nat} (hE : ∀ i j, E i j → i < N) (h : Relation.TransGen E i j) : wa_W E N i j := by
  induction h with
  | single a => exact wa_E a N
  | tail _ a ih => exact wa_tr N _ _ _ (hE _ _ a) ih (wa_E a N)
end
theorem wa_ev {b : Bool} {kd nm : Nat → Int32} {ev : Nat → Nat} {n i j : Nat} (hn : n ≤ 8) :
    wa_W (fun i j => ev_E b kd nm ev i j ∧ j < n) 8 i j ↔ (ev_T b kd nm ev i j ∧ j < n) := by
  constructor
  · intro h
    have h2 := wa_T _ _ _ h
    clear h
    induction h2 with
    | single a => exact ⟨ev_T_s a.1, a.2⟩
    | tail _ a ih => exact ⟨ev_T_t ih.1 (ev_T_s a.1), a.2⟩
  · rintro ⟨h, hj⟩
    refine wa_of (fun i j h => by have := h.1.1; have := h.2; omega) ?_
    revert hj
    unfold ev_T at h
    induction h with
    | single a => exact fun hj => Relation.TransGen.single ⟨a, hj⟩
    | tail _ a ih => exact fun hj => Relation.TransGen.tail (ih (Nat.lt_trans a.1 hj)) ⟨a, hj⟩
end
section
/-! which terminal states are reached; the reduction by own steps; counts -/
def oc_P (z : Nat → Nat) (kd nm : Nat → Int32) : Nat → MSt → MSt → Prop
  | 0, s, f => s = f
  | n + 1, s, f => ∃ t, t < 3 ∧ mm_en z kd nm t s = true ∧ oc_P z kd nm n (mm_stp kd nm t s) f
def oc_t (z : Nat → Nat) (kd nm : Nat → Int32) (s : MSt) : Bool := !(mm_en z kd nm 0 s) && !(mm_en z kd nm 1 s) && !(mm_en z kd nm 2 s)
def oc_own (z : Nat → Nat) (kd : Nat → Int32) (t : Nat) (s : MSt) : Bool := decide (s.2.2.2 t < z t ∧ kd (4 * t + s.2.2.2 t) = 2)
def oc_dead (z : Nat → Nat) (s : MSt) : Bool := decide (s.2.2.2 0 < z 0 ∨ s.2.2.2 1 < z 1 ∨ s.2.2.2 2 < z 2)
/-- the list of all terminal states that are reached -/
def oc_Out (z : Nat → Nat) (kd nm : Nat → Int32) (s0 : MSt) (L : List MSt) : Prop :=
  L.Nodup ∧ ∀ s, s ∈ L ↔ (oc_t z kd nm s = true ∧ ∃ n, oc_P z kd nm n s0 s)
def oc_gr (L : List MSt) (v : Nat) (g : Int32) : Prop := (∃ s, s ∈ L ∧ s.1 v = g) ∧ ∀ s, s ∈ L → s.1 v ≤ g
section
variable {z : Nat → Nat} {kd nm : Nat → Int32} {s s0 f : MSt}
theorem oc_t_iff : oc_t z kd nm s = true ↔ ∀ t, t < 3 → mm_en z kd nm t s = false := by
  unfold oc_t
  constructor
  · intro h t ht
    have h' : (mm_en z kd nm 0 s = false ∧ mm_en z kd nm 1 s = false) ∧ mm_en z kd nm 2 s = false := by
      simpa using h
    rcases (by omega : t = 0 ∨ t = 1 ∨ t = 2) with rfl | rfl | rfl
    · exact h'.1.1
    · exact h'.1.2
    · exact h'.2
  · intro h
    rw [h 0 (by omega), h 1 (by omega), h 2 (by omega)]
    rfl
theorem oc_own_iff {t : Nat} : oc_own z kd t s = true ↔ (s.2.2.2 t < z t ∧ kd (4 * t + s.2.2.2 t) = 2) := decide_eq_true_iff
theorem oc_own_en {t : Nat} (h : oc_own z kd t s = true) : mm_en z kd nm t s = true := by
  have h := oc_own_iff.mp h
  refine mm_en_iff.mpr ⟨by omega, fun e => ?_, fun e => ?_⟩
  · rw [h.2] at e; exact absurd e (by decide)
  · rw [h.2] at e; exact absurd e (by decide)
theorem oc_P_end {n : Nat} : ∀ s, oc_P z kd nm n s f → ∀ t, t < 3 → mm_en z kd nm t f = true → oc_P z kd nm (n + 1) s (mm_stp kd nm t f) := by
  induction n with
  | zero => intro s h t ht he; cases h; exact ⟨t, ht, he, rfl⟩
  | succ n ih =>
    intro s h t ht he
    obtain ⟨u, hu, hue, h⟩ := h
    exact ⟨u, hu, hue, ih _ h t ht he⟩
theorem oc_P_W {n : Nat} (hP : mm_P z kd nm) : ∀ s, mm_W z kd nm s → oc_P z kd nm n s f → mm_W z kd nm f := by
  induction n with
  | zero => intro s hW h; cases h; exact hW
  | succ n ih =>
    intro s hW h
    obtain ⟨u, hu, hue, h⟩ := h
    exact ih _ (mm_W_stp hP hW hu hue) h
/-- an own step and another thread's step -/
theorem oc_comm {t u : Nat} (ho : oc_own z kd t s = true) (hne : u ≠ t) (he : mm_en z kd nm u s = true) :
    mm_en z kd nm u (mm_stp kd nm t s) = true ∧ oc_own z kd t (mm_stp kd nm u s) = true ∧ mm_stp kd nm t (mm_stp kd nm u s) = mm_stp kd nm u (mm_stp kd nm t s) := by
  have ho' := oc_own_iff.mp ho
  have hE := mm_en_iff.mp he
  obtain ⟨V, R, H, D⟩ := s
  dsimp only at ho' hE
  have et : mm_stp kd nm t (V, R, H, D) = (V, upd R t (R t + nm (4 * t + D t)), H, mm_un D t (D t + 1)) := mm_stp2 (s := (V, R, H, D)) ho'.2
  have d1 : mm_un D t (D t + 1) u = D u := mm_ud hne
  have d2 : mm_un D u (D u + 1) t = D t := mm_ud (Ne.symm hne)
  refine ⟨?_, ?_, ?_⟩
  · rw [et]
    refine mm_en_iff.mpr ?_
    dsimp only
    rw [d1]
    exact hE
  · refine oc_own_iff.mpr ?_
    rw [mm_stpD]
    dsimp only
    rw [d2]
    exact ho'
  · rw [et]
    by_cases k0 : kd (4 * u + D u) = 0
    · rw [mm_stp0 (s := (V, R, H, D)) k0, mm_stp2 (by dsimp only; rw [d2]; exact ho'.2), mm_stp0 (by dsimp only; rw [d1]; exact k0)]
      dsimp only
      rw [d1, d2, pk_un (Ne.symm hne), mm_updc hne, mm_unc hne]
    · by_cases k1 : kd (4 * u + D u) = 1
      · rw [mm_stp1 (s := (V, R, H, D)) k1, mm_stp2 (by dsimp only; rw [d2]; exact ho'.2), mm_stp1 (by dsimp only; rw [d1]; exact k1)]
        dsimp only
        rw [d1, d2, pk_un hne, mm_unc hne]
      · by_cases k2 : kd (4 * u + D u) = 2
        · rw [mm_stp2 (s := (V, R, H, D)) k2, mm_stp2 (by dsimp only; rw [d2]; exact ho'.2), mm_stp2 (by dsimp only; rw [d1]; exact k2)]
          dsimp only
          rw [d1, d2, pk_un (Ne.symm hne), pk_un hne, mm_updc hne, mm_unc hne]
        · by_cases k3 : kd (4 * u + D u) = 3
          · rw [mm_stp3 (s := (V, R, H, D)) k3, mm_stp2 (by dsimp only; rw [d2]; exact ho'.2), mm_stp3 (by dsimp only; rw [d1]; exact k3)]
            dsimp only
            rw [d1, d2, mm_unc hne]
          · have q : ∀ s : MSt, kd (4 * u + s.2.2.2 u) ≠ 0 → kd (4 * u + s.2.2.2 u) ≠ 1 → kd (4 * u + s.2.2.2 u) ≠ 2 → kd (4 * u + s.2.2.2 u) ≠ 3 → mm_stp kd nm u s = (s.1, s.2.1, upd s.2.2.1 (nm (4 * u + s.2.2.2 u)).toNatClampNeg (-1), mm_un s.2.2.2 u (s.2.2.2 u + 1)) := by
              intro s a0 a1 a2 a3
              unfold mm_stp
              rw [if_neg a0, if_neg a1, if_neg a2, if_neg a3]
            rw [q (V, R, H, D) k0 k1 k2 k3, mm_stp2 (by dsimp only; rw [d2]; exact ho'.2), q _ (by dsimp only; rw [d1]; exact k0) (by dsimp only; rw [d1]; exact k1) (by dsimp only; rw [d1]; exact k2) (by dsimp only; rw [d1]; exact k3)]
            dsimp only
            rw [d1, d2, mm_unc hne]
theorem oc_por {t : Nat} (ht : t < 3) (hf : oc_t z kd nm f = true) : ∀ n s, oc_P z kd nm n s f → oc_own z kd t s = true → ∃ m, n = m + 1 ∧ oc_P z kd nm m (mm_stp kd nm t s) f := by
  intro n
  induction n with
  | zero =>
    intro s h ho
    cases h
    have a := oc_own_en (nm := nm) ho
    rw [oc_t_iff.mp hf t ht] at a
    exact absurd a (by decide)
  | succ n ih =>
    intro s h ho
    obtain ⟨u, hu, hue, h⟩ := h
    by_cases e : u = t
    · subst e; exact ⟨n, rfl, h⟩
    · obtain ⟨c1, c2, c3⟩ := oc_comm ho e hue
      obtain ⟨m, hm, h'⟩ := ih _ h c2
      rw [c3] at h'
      exact ⟨m + 1, by omega, u, hu, c1, h'⟩
/-- what is closed under the steps of the reduced search holds all terminal states -/
def oc_sel (z : Nat → Nat) (kd : Nat → Int32) (t : Nat) (s : MSt) : Prop := (∀ u, u < 3 → oc_own z kd u s = false) ∨ (oc_own z kd t s = true ∧ ∀ u, u < t → oc_own z kd u s = false)
def oc_cl (z : Nat → Nat) (kd nm : Nat → Int32) (F : MSt → Prop) (s : MSt) : Prop := ∀ t, t < 3 → mm_en z kd nm t s = true → oc_sel z kd t s → F (mm_stp kd nm t s)
theorem oc_least (P : Nat → Prop) : ∀ t, P t → ∃ u, u ≤ t ∧ P u ∧ ∀ w, w < u → ¬ P w := by
  intro t
  induction t using Nat.strongRecOn with
  | _ t ih =>
    intro h
    by_cases e : ∃ w, w < t ∧ P w
    · obtain ⟨w, hw, hp⟩ := e
      obtain ⟨u, a, b, c⟩ := ih w hw hp
      exact ⟨u, by omega, b, c⟩
    · exact ⟨t, Nat.le_refl _, h, fun w hw hp => e ⟨w, hw, hp⟩⟩
theorem oc_closed {F : MSt → Prop} (hF : ∀ s, F s → oc_cl z kd nm F s) (hf : oc_t z kd nm f = true) : ∀ n s, F s → oc_P z kd nm n s f → F f := by
  intro n
  induction n with
  | zero => intro s hs h; cases h; exact hs
  | succ n ih =>
    intro s hs h
    by_cases e : ∃ t, t < 3 ∧ oc_own z kd t s = true
    · obtain ⟨t, ht, ho⟩ := e
      obtain ⟨u, hut, hu, hl⟩ := oc_least (fun t => oc_own z kd t s = true) t ho
      obtain ⟨m, hm, h'⟩ := oc_por (t := u) (by omega) hf _ s h hu
      have : n = m := by omega
      subst this
      refine ih _ (hF s hs u (by omega) (oc_own_en hu) (Or.inr ⟨hu, fun w hw => ?_⟩)) h'
      exact Bool.eq_false_iff.mpr (hl w hw)
    · obtain ⟨u, hu, hue, h⟩ := h
      refine ih _ (hF s hs u hu hue (Or.inl fun w hw => ?_)) h
      exact Bool.eq_false_iff.mpr (fun z => e ⟨w, hw, z⟩)
/-! the count of prefixes, and of full orders -/
def oc_pr (f : Nat → Nat) : Nat → Nat
  | 0 => 0
  | a + 1 => f a
def oc_n : Nat → Nat → Nat → Nat → Nat
  | 0, _, _, _ => 1
  | k + 1, a, b, c => 1 + oc_pr (fun a' => oc_n k a' b c) a + oc_pr (fun b' => oc_n k a b' c) b + oc_pr (fun c' => oc_n k a b c') c
def oc_m : Nat → Nat → Nat → Nat → Nat
  | 0, _, _, _ => 1
  | k + 1, a, b, c => max 1 (oc_pr (fun a' => oc_m k a' b c) a + oc_pr (fun b' => oc_m k a b' c) b + oc_pr (fun c' => oc_m k a b c') c)
theorem oc_n_all : ∀ a, a < 5 → ∀ b, b < 5 → ∀ c, c < 5 → a + b + c ≤ 8 → oc_n 8 a b c ≤ 1749 := by decide +kernel
theorem oc_m_all : ∀ a, a < 5 → ∀ b, b < 5 → ∀ c, c < 5 → a + b + c ≤ 8 → oc_m 8 a b c ≤ 560 := by decide +kernel
/-- all states of the tree of steps -/
def oc_tree (z : Nat → Nat) (kd nm : Nat → Int32) : Nat → MSt → List MSt
  | 0, s => [s]
  | k + 1, s => s :: ((if mm_en z kd nm 0 s then oc_tree z kd nm k (mm_stp kd nm 0 s) else []) ++ ((if mm_en z kd nm 1 s then oc_tree z kd nm k (mm_stp kd nm 1 s) else []) ++ (if mm_en z kd nm 2 s then oc_tree z kd nm k (mm_stp kd nm 2 s) else [])))
theorem oc_tree_self (k : Nat) (s : MSt) : s ∈ oc_tree z kd nm k s := by
  cases k with
  | zero => exact List.mem_singleton.mpr rfl
  | succ k => exact List.mem_cons_self
theorem oc_tree_mem : ∀ k n s, n ≤ k → oc_P z kd nm n s f → f ∈ oc_tree z kd nm k s := by
  intro k
  induction k with
  | zero =>
    intro n s hn h
    have : n = 0 := by omega
    subst this
    cases h
    exact oc_tree_self 0 _
  | succ k ih =>
    intro n s hn h
    cases n with
    | zero => cases h; exact oc_tree_self _ _
    | succ n =>
      obtain ⟨u, hu, hue, h⟩ := h
      have a := ih n _ (by omega) h
      rw [oc_tree]
      refine List.mem_cons_of_mem _ ?_
      rcases (by omega : u = 0 ∨ u = 1 ∨ u = 2) with rfl | rfl | rfl
      · rw [if_pos hue]; exact List.mem_append_left _ a
      · rw [if_pos hue]; exact List.mem_append_right _ (List.mem_append_left _ a)
      · rw [if_pos hue (c := mm_en z kd nm 2 s = true)]; exact List.mem_append_right _ (List.mem_append_right _ a)
theorem oc_tree_len (hP : mm_P z kd nm) : ∀ k s a b c, mm_W z kd nm s → a = z 0 - s.2.2.2 0 → b = z 1 - s.2.2.2 1 → c = z 2 - s.2.2.2 2 → (oc_tree z kd nm k s).length ≤ oc_n k a b c := by
  intro k
  induction k with
  | zero => intro s a b c _ _ _ _; rw [oc_tree, oc_n]; exact Nat.le_refl _
  | succ k ih =>
    intro s a b c hW ha hb hc
    rw [oc_tree, oc_n]
    simp only [List.length_cons, List.length_append]
    have h0 : (if mm_en z kd nm 0 s then oc_tree z kd nm k (mm_stp kd nm 0 s) else []).length ≤ oc_pr (fun a' => oc_n k a' b c) a := by
      by_cases e : mm_en z kd nm 0 s = true
      · rw [if_pos e]
        have l := mm_lt hW (by omega) e
        cases a with
        | zero => omega
        | succ a' =>
          refine ih _ a' b c (mm_W_stp hP hW (by omega) e) ?_ ?_ ?_ <;> rw [mm_stpD]
          · rw [mm_us]; omega
          · rw [mm_ud (by omega)]; omega
          · rw [mm_ud (by omega)]; omega
      · rw [if_neg e]; exact Nat.zero_le _
    have h1 : (if mm_en z kd nm 1 s then oc_tree z kd nm k (mm_stp kd nm 1 s) else []).length ≤ oc_pr (fun b' => oc_n k a b' c) b := by
      by_cases e : mm_en z kd nm 1 s = true
      · rw [if_pos e]
        have l := mm_lt hW (by omega) e
        cases b with
        | zero => omega
        | succ b' =>
          refine ih _ a b' c (mm_W_stp hP hW (by omega) e) ?_ ?_ ?_ <;> rw [mm_stpD]
          · rw [mm_ud (by omega)]; omega
          · rw [mm_us]; omega
          · rw [mm_ud (by omega)]; omega
      · rw [if_neg e]; exact Nat.zero_le _
    have h2 : (if mm_en z kd nm 2 s then oc_tree z kd nm k (mm_stp kd nm 2 s) else []).length ≤ oc_pr (fun c' => oc_n k a b c') c := by
      by_cases e : mm_en z kd nm 2 s = true
      · rw [if_pos e]
        have l := mm_lt hW (by omega) e
        cases c with
        | zero => omega
        | succ c' =>
          refine ih _ a b c' (mm_W_stp hP hW (by omega) e) ?_ ?_ ?_ <;> rw [mm_stpD]
          · rw [mm_ud (by omega)]; omega
          · rw [mm_ud (by omega)]; omega
          · rw [mm_us]; omega
      · rw [if_neg e]; exact Nat.zero_le _
    omega
theorem oc_P_len (hP : mm_P z kd nm) : ∀ n s, mm_W z kd nm s → oc_P z kd nm n s f → n + s.2.2.2 0 + s.2.2.2 1 + s.2.2.2 2 ≤ z 0 + z 1 + z 2 := by
  intro n
  induction n with
  | zero =>
    intro s hW _
    have := hW.1 0 (by omega)
    have := hW.1 1 (by omega)
    have := hW.1 2 (by omega)
    omega
  | succ n ih =>
    intro s hW h
    obtain ⟨u, hu, hue, h⟩ := h
    have a := ih _ (mm_W_stp hP hW hu hue) h
    rw [mm_stpD] at a
    rcases (by omega : u = 0 ∨ u = 1 ∨ u = 2) with rfl | rfl | rfl
    · rw [mm_us, mm_ud (by omega), mm_ud (by omega)] at a; omega
    · rw [mm_us, mm_ud (by omega), mm_ud (by omega)] at a; omega
    · rw [mm_us, mm_ud (by omega), mm_ud (by omega)] at a; omega
/-- no more than 1749 different states are reached -/
theorem oc_bound (hP : mm_P z kd nm) (hW : mm_W z kd nm s0) {F : List MSt} (hn : F.Nodup) (hF : ∀ s, s ∈ F → ∃ n, oc_P z kd nm n s0 s) : F.length ≤ 1749 := by
  have a0 := hP.1 0 (by omega)
  have a1 := hP.1 1 (by omega)
  have a2 := hP.1 2 (by omega)
  have a3 := hP.2.1
  have h1 : F.length ≤ (oc_tree z kd nm 8 s0).length := by
    refine List.Nodup.length_le_of_subset hn ?_
    intro s hs
    obtain ⟨n, h⟩ := hF s hs
    have := oc_P_len hP n s0 hW h
    exact oc_tree_mem 8 n s0 (by omega) h
  have h2 := oc_tree_len hP 8 s0 _ _ _ hW rfl rfl rfl
  have h3 := oc_n_all (z 0 - s0.2.2.2 0) (by omega) (z 1 - s0.2.2.2 1) (by omega) (z 2 - s0.2.2.2 2) (by omega) (by omega)
  omega
/-! the answers are told by the set -/
theorem oc_perm {L L' : List MSt} (h : oc_Out z kd nm s0 L) (h' : oc_Out z kd nm s0 L') : L.Perm L' :=
  (List.perm_ext_iff_of_nodup h.1 h'.1).mpr (fun s => (h.2 s).trans (h'.2 s).symm)
theorem oc_len {L L' : List MSt} (h : oc_Out z kd nm s0 L) (h' : oc_Out z kd nm s0 L') : L.length = L'.length := (oc_perm h h').length_eq
theorem oc_cnt {L L' : List MSt} (h : oc_Out z kd nm s0 L) (h' : oc_Out z kd nm s0 L') : L.countP (oc_dead z) = L'.countP (oc_dead z) := (oc_perm h h').countP_eq _
theorem oc_gr_eq {L L' : List MSt} {v : Nat} {g g' : Int32} (h : oc_Out z kd nm s0 L) (h' : oc_Out z kd nm s0 L') (hg : oc_gr L v g) (hg' : oc_gr L' v g') : g = g' := by
  obtain ⟨⟨s, hs, e⟩, ha⟩ := hg
  obtain ⟨⟨s', hs', e'⟩, ha'⟩ := hg'
  have a := ha' s ((h'.2 s).mpr ((h.2 s).mp hs))
  have b := ha s' ((h.2 s').mpr ((h'.2 s').mp hs'))
  rw [e] at a
  rw [e'] at b
  exact Int32.le_antisymm a b
/-- some terminal state is reached -/
theorem oc_some (hP : mm_P z kd nm) : ∀ k s, mm_W z kd nm s → z 0 + z 1 + z 2 ≤ k + s.2.2.2 0 + s.2.2.2 1 + s.2.2.2 2 → ∃ f n, oc_t z kd nm f = true ∧ oc_P z kd nm n s f := by
  intro k
  induction k with
  | zero =>
    intro s hW h
    refine ⟨s, 0, oc_t_iff.mpr fun t ht => ?_, rfl⟩
    refine Bool.eq_false_iff.mpr fun e => ?_
    have l := mm_lt hW ht e
    have := hW.1 0 (by omega)
    have := hW.1 1 (by omega)
    have := hW.1 2 (by omega)
    rcases (by omega : t = 0 ∨ t = 1 ∨ t = 2) with rfl | rfl | rfl <;> omega
  | succ k ih =>
    intro s hW h
    by_cases e : ∃ t, t < 3 ∧ mm_en z kd nm t s = true
    · obtain ⟨t, ht, he⟩ := e
      obtain ⟨f, n, hf, hp⟩ := ih (mm_stp kd nm t s) (mm_W_stp hP hW ht he) (by
        rw [mm_stpD]
        rcases (by omega : t = 0 ∨ t = 1 ∨ t = 2) with rfl | rfl | rfl
        · rw [mm_us, mm_ud (by omega), mm_ud (by omega)]; omega
        · rw [mm_us, mm_ud (by omega), mm_ud (by omega)]; omega
        · rw [mm_us, mm_ud (by omega), mm_ud (by omega)]; omega)
      exact ⟨f, n + 1, hf, t, ht, he, hp⟩
    · refine ⟨s, 0, oc_t_iff.mpr fun t ht => ?_, rfl⟩
      exact Bool.eq_false_iff.mpr fun z => e ⟨t, ht, z⟩
end
end
section
/-! the number of orders: cuts against sets -/
noncomputable def od_if (p : Prop) (x : Int32) : Int32 := @ite Int32 p (Classical.propDecidable p) x 0
theorem od_t {p : Prop} {x : Int32} (h : p) : od_if p x = x := by unfold od_if; exact if_pos h
theorem od_f {p : Prop} {x : Int32} (h : ¬ p) : od_if p x = 0 := by unfold od_if; exact if_neg h
def od_sum (g : Nat → Int32) : Nat → Int32
  | 0 => 0
  | j + 1 => od_sum g j + g j
theorem od_sum_0 {g : Nat → Int32} : ∀ {n : Nat}, (∀ j, j < n → g j = 0) → od_sum g n = 0 := by
  intro n
  induction n with
  | zero => exact fun _ => rfl
  | succ n ih =>
    intro h
    rw [od_sum, ih (fun j hj => h j (by omega)), h n (by omega)]
    rfl
theorem od_sum_1 {g : Nat → Int32} {e : Nat} : ∀ {n : Nat}, e < n → (∀ j, j < n → j ≠ e → g j = 0) → od_sum g n = g e := by
  intro n
  induction n with
  | zero => exact fun h => absurd h (Nat.not_lt_zero _)
  | succ n ih =>
    intro he h
    rw [od_sum]
    by_cases q : e = n
    · subst q
      rw [od_sum_0 (fun j hj => h j (by omega) (by omega)), Int32.zero_add]
    · rw [ih (by omega) (fun j hj => h j (by omega)), h n (by omega) (by omega), Int32.add_zero]
theorem od_sum_cg {g h : Nat → Int32} : ∀ {n : Nat}, (∀ j, j < n → g j = h j) → od_sum g n = od_sum h n := by
  intro n
  induction n with
  | zero => exact fun _ => rfl
  | succ n ih =>
    intro e
    rw [od_sum, od_sum, ih (fun j hj => e j (by omega)), e n (by omega)]
theorem od_split {ev : Nat → Nat} {G : Nat → Int32} : ∀ {n : Nat}, (∀ j, j < n → ev j < 3) → od_sum G n = od_sum (fun t => od_sum (fun j => if ev j = t then G j else 0) n) 3 := by
  intro n
  induction n with
  | zero => exact fun _ => rfl
  | succ n ih =>
    intro h
    have a := ih (fun j hj => h j (by omega))
    have b := h n (by omega)
    simp only [od_sum] at a ⊢
    rw [a]
    rcases (by omega : ev n = 0 ∨ ev n = 1 ∨ ev n = 2) with e | e | e
    · rw [e, if_pos rfl, if_neg (by decide), if_neg (by decide)]; grind
    · rw [e, if_pos rfl, if_neg (by decide), if_neg (by decide)]; grind
    · rw [e, if_pos rfl, if_neg (by decide), if_neg (by decide)]; grind
/-- event i is in the cut -/
def od_in (ev cut : Nat → Nat) (i : Nat) : Prop := ev_c ev (ev i) i < cut (ev i)
def od_mk (ev cut : Nat → Nat) : Nat → Nat
  | 0 => 0
  | i + 1 => if ev_c ev (ev i) i < cut (ev i) then 2 ^ i + od_mk ev cut i else od_mk ev cut i
def od_ix (cut : Nat → Nat) : Nat := 25 * cut 0 + 5 * cut 1 + cut 2
def od_fit (kd nm : Nat → Int32) (ev : Nat → Nat) (n t k : Nat) (cut : Nat → Nat) : Prop :=
  k < ev_c ev t n ∧ ∀ i e, e < n → ev e = t → ev_c ev t e = k → ev_T false kd nm ev i e → ev i ≠ t → od_in ev cut i
def od_last (kd nm : Nat → Int32) (ev : Nat → Nat) (n j m : Nat) : Prop := m.testBit j = true ∧ ∀ k, k < n → m.testBit k = true → ¬ ev_T false kd nm ev j k
def od_X (kd nm : Nat → Int32) (ev : Nat → Nat) (n : Nat) (cu : Nat → Int32) : Prop :=
  ∀ cut : Nat → Nat, (∀ t, t < 3 → cut t ≤ ev_c ev t n) → cu (od_ix cut) = (if od_ix cut = 0 then 1 else 0) + od_sum (fun t => od_if (0 < cut t ∧ od_fit kd nm ev n t (cut t - 1) (mm_un cut t (cut t - 1))) (cu (od_ix (mm_un cut t (cut t - 1))))) 3
def od_Y (kd nm : Nat → Int32) (ev : Nat → Nat) (n : Nat) (sm : Nat → Int32) : Prop :=
  sm 0 = 1 ∧ ∀ m, 0 < m → m < 2 ^ n → sm m = od_sum (fun j => od_if (od_last kd nm ev n j m) (sm (m - 2 ^ j))) n
def od_Cs (kd nm : Nat → Int32) (ev : Nat → Nat) (n : Nat) (cut : Nat → Nat) : Prop :=
  ∀ i j, j < n → ev_T false kd nm ev i j → od_in ev cut j → od_in ev cut i
section
variable {kd nm : Nat → Int32} {ev cut : Nat → Nat} {n : Nat}
theorem od_mk_lt (n : Nat) : od_mk ev cut n < 2 ^ n := by
  induction n with
  | zero => exact Nat.one_pos
  | succ n ih =>
    rw [od_mk, Nat.pow_succ]
    split <;> omega
theorem od_mk_bit : ∀ (n i : Nat), (od_mk ev cut n).testBit i = true ↔ (i < n ∧ od_in ev cut i) := by
  intro n
  induction n with
  | zero => intro i; rw [od_mk, Nat.zero_testBit]; exact ⟨fun h => absurd h (by decide), fun h => absurd h.1 (Nat.not_lt_zero _)⟩
  | succ n ih =>
    intro i
    have hl := od_mk_lt (ev := ev) (cut := cut) n
    rw [od_mk]
    by_cases c : ev_c ev (ev n) n < cut (ev n)
    · rw [if_pos c]
      rcases Nat.lt_trichotomy i n with a | a | a
      · rw [Nat.testBit_two_pow_add_gt a, ih i]
        exact ⟨fun h => ⟨by omega, h.2⟩, fun h => ⟨a, h.2⟩⟩
      · subst a
        rw [Nat.testBit_two_pow_add_eq, Nat.testBit_lt_two_pow hl]
        exact ⟨fun _ => ⟨by omega, c⟩, fun _ => rfl⟩
      · have hq : 2 ^ n + od_mk ev cut n < 2 ^ i := by
          have : 2 ^ (n + 1) ≤ 2 ^ i := Nat.pow_le_pow_right (by decide) a
          rw [Nat.pow_succ] at this
          omega
        rw [Nat.testBit_lt_two_pow hq]
        exact ⟨fun h => absurd h (by decide), fun h => by omega⟩
    · rw [if_neg c, ih i]
      refine ⟨fun h => ⟨by omega, h.2⟩, fun h => ⟨?_, h.2⟩⟩
      by_cases e : i = n
      · subst e; exact absurd h.2 c
      · omega
theorem od_mk_rm {cut' : Nat → Nat} {j : Nat} (hj : od_in ev cut j) (h : ∀ i, od_in ev cut' i ↔ (od_in ev cut i ∧ i ≠ j)) : ∀ n, od_mk ev cut n = od_mk ev cut' n + (if j < n then 2 ^ j else 0) := by
  intro n
  induction n with
  | zero => rfl
  | succ n ih =>
    rw [od_mk, od_mk, ih]
    by_cases e : n = j
    · subst e
      have a : ¬ ev_c ev (ev n) n < cut' (ev n) := fun z => ((h n).mp z).2 rfl
      rw [if_pos (show ev_c ev (ev n) n < cut (ev n) from hj), if_neg a, if_neg (Nat.lt_irrefl _), if_pos (Nat.lt_succ_self _)]
      omega
    · have hh := h n
      unfold od_in at hh
      by_cases c : ev_c ev (ev n) n < cut (ev n)
      · have c' := hh.mpr ⟨c, e⟩
        rw [if_pos c, if_pos c']
        by_cases q : j < n
        · rw [if_pos q, if_pos (by omega)]; omega
        · rw [if_neg q, if_neg (by omega)]; rfl
      · have c' : ¬ ev_c ev (ev n) n < cut' (ev n) := fun z => c (hh.mp z).1
        rw [if_neg c, if_neg c']
        by_cases q : j < n
        · rw [if_pos q, if_pos (by omega)]
        · rw [if_neg q, if_neg (by omega)]
/-- a cut less its last event of a thread -/
theorem od_in_un {t e : Nat} (he : ev e = t) (hp : ev_c ev t e = cut t - 1) (hc : 0 < cut t) (i : Nat) : od_in ev (mm_un cut t (cut t - 1)) i ↔ (od_in ev cut i ∧ i ≠ e) := by
  unfold od_in
  by_cases q : ev i = t
  · rw [q, mm_us]
    constructor
    · intro h
      refine ⟨by omega, fun z => ?_⟩
      subst z
      omega
    · rintro ⟨h, hne⟩
      have : ev_c ev t i ≠ ev_c ev t e := fun z => hne (ev_c_inj q he z)
      omega
  · rw [mm_ud q]
    refine ⟨fun h => ⟨h, fun z => ?_⟩, fun h => h.1⟩
    subst z
    exact q he
theorem od_ix_un {t : Nat} (ht : t < 3) (hc : 0 < cut t) : od_ix (mm_un cut t (cut t - 1)) < od_ix cut := by
  unfold od_ix
  rcases (by omega : t = 0 ∨ t = 1 ∨ t = 2) with rfl | rfl | rfl
  · rw [mm_us, mm_ud (by decide), mm_ud (by decide)]; omega
  · rw [mm_us, mm_ud (by decide), mm_ud (by decide)]; omega
  · rw [mm_us, mm_ud (by decide), mm_ud (by decide)]; omega
theorem od_join {cu sm : Nat → Int32} (h3 : ∀ i, i < n → ev i < 3) (hX : od_X kd nm ev n cu) (hY : od_Y kd nm ev n sm) :
    ∀ N cut, od_ix cut < N → (∀ t, t < 3 → cut t ≤ ev_c ev t n) → (od_Cs kd nm ev n cut → cu (od_ix cut) = sm (od_mk ev cut n)) ∧ (¬ od_Cs kd nm ev n cut → cu (od_ix cut) = 0) := by
  intro N
  induction N with
  | zero => exact fun _ h => absurd h (Nat.not_lt_zero _)
  | succ N ih =>
    intro cut hN hcut
    have hrec := hX cut hcut
    by_cases h0 : od_ix cut = 0
    · have c0 : cut 0 = 0 := by unfold od_ix at h0; omega
      have c1 : cut 1 = 0 := by unfold od_ix at h0; omega
      have c2 : cut 2 = 0 := by unfold od_ix at h0; omega
      have cz : ∀ t, t < 3 → cut t = 0 := by
        intro t ht
        rcases (by omega : t = 0 ∨ t = 1 ∨ t = 2) with rfl | rfl | rfl
        · exact c0
        · exact c1
        · exact c2
      have e1 : cu (od_ix cut) = 1 := by
        rw [hrec, if_pos h0, od_sum_0 (fun t ht => od_f (fun z => by have := cz t ht; omega))]
        rfl
      have e2 : od_mk ev cut n = 0 := by
        apply Nat.eq_of_testBit_eq
        intro i
        rw [Nat.zero_testBit]
        refine Bool.eq_false_iff.mpr fun z => ?_
        obtain ⟨a, b⟩ := (od_mk_bit n i).mp z
        have := cz (ev i) (h3 i a)
        unfold od_in at b
        omega
      refine ⟨fun _ => by rw [e1, e2, hY.1], fun hn => absurd ?_ hn⟩
      intro i j hj hT hin
      have := cz (ev j) (h3 j hj)
      unfold od_in at hin
      omega
    · rw [if_neg h0, Int32.zero_add] at hrec
      have hlt : ∀ t, t < 3 → 0 < cut t → ∀ u, u < 3 → mm_un cut t (cut t - 1) u ≤ ev_c ev u n := by
        intro t ht hc u hu
        by_cases q : u = t
        · subst q; rw [mm_us]; have := hcut u hu; omega
        · rw [mm_ud q]; exact hcut u hu
      have hIH : ∀ t, t < 3 → 0 < cut t → _ := fun t ht hc => ih (mm_un cut t (cut t - 1)) (by have := od_ix_un (cut := cut) ht hc; omega) (hlt t ht hc)
      have htop : ∀ t, t < 3 → 0 < cut t → ∃ e, e < n ∧ ev e = t ∧ ev_c ev t e = cut t - 1 := fun t ht hc => ev_c_ex (by have := hcut t ht; omega)
      constructor
      · intro hCs
        have hpos : 0 < od_mk ev cut n := by
          have : ∃ t, t < 3 ∧ 0 < cut t := by
            apply Classical.byContradiction
            intro hh
            have c0 : ¬ 0 < cut 0 := fun z => hh ⟨0, by omega, z⟩
            have c1 : ¬ 0 < cut 1 := fun z => hh ⟨1, by omega, z⟩
            have c2 : ¬ 0 < cut 2 := fun z => hh ⟨2, by omega, z⟩
            apply h0
            unfold od_ix
            omega
          obtain ⟨t, ht, hc⟩ := this
          obtain ⟨e, he, het, hep⟩ := htop t ht hc
          have hb : (od_mk ev cut n).testBit e = true := (od_mk_bit n e).mpr ⟨he, by unfold od_in; rw [het]; omega⟩
          apply Nat.pos_of_ne_zero
          intro hz
          rw [hz, Nat.zero_testBit] at hb
          exact absurd hb (by decide)
        rw [hrec, hY.2 _ hpos (od_mk_lt n), od_split h3]
        refine od_sum_cg fun t ht => ?_
        by_cases hc : 0 < cut t
        · obtain ⟨e, he, het, hep⟩ := htop t ht hc
          have hin := od_in_un (ev := ev) het hep hc
          have hie : od_in ev cut e := by unfold od_in; rw [het]; omega
          have hmk := od_mk_rm hie hin n
          rw [if_pos he] at hmk
          rw [od_sum_1 (e := e) he (fun j hj hne => ?_), if_pos het]
          · have hfit : od_fit kd nm ev n t (cut t - 1) (mm_un cut t (cut t - 1)) := by
              refine ⟨by have := hcut t ht; omega, fun i e' he' het' hep' hT hne => ?_⟩
              have : e' = e := ev_c_inj het' het (hep'.trans hep.symm)
              subst this
              refine (hin i).mpr ⟨hCs i e' he' hT hie, fun z => ?_⟩
              subst z
              exact hne het
            rw [od_t ⟨hc, hfit⟩]
            by_cases hC' : od_Cs kd nm ev n (mm_un cut t (cut t - 1))
            · rw [(hIH t ht hc).1 hC', od_t, hmk, Nat.add_sub_cancel]
              refine ⟨(od_mk_bit n e).mpr ⟨he, hie⟩, fun k hk hb hT => ?_⟩
              have hk' := ((od_mk_bit n k).mp hb).2
              have hkk : od_in ev (mm_un cut t (cut t - 1)) k := (hin k).mpr ⟨hk', fun z => by subst z; exact absurd (ev_T_lt hT) (Nat.lt_irrefl _)⟩
              exact ((hin e).mp (hC' e k hk hT hkk)).2 rfl
            · rw [(hIH t ht hc).2 hC', od_f]
              intro hl
              apply hC'
              intro i k hk hT hkk
              have hk2 := (hin k).mp hkk
              refine (hin i).mpr ⟨hCs i k hk hT hk2.1, fun z => ?_⟩
              subst z
              exact hl.2 k hk ((od_mk_bit n k).mpr ⟨hk, hk2.1⟩) hT
          · by_cases q : ev j = t
            · rw [if_pos q]
              refine od_f fun hl => ?_
              have hj2 := ((od_mk_bit n j).mp hl.1).2
              unfold od_in at hj2
              rw [q] at hj2
              have hlt2 : ev_c ev t j < ev_c ev t e := by
                have : ev_c ev t j ≠ ev_c ev t e := fun z => hne (ev_c_inj q het z)
                omega
              have hje : j < e := by
                apply Nat.lt_of_not_le
                intro z
                have := ev_c_mono (ev := ev) (t := t) z
                omega
              exact hl.2 e he ((od_mk_bit n e).mpr ⟨he, hie⟩) (ev_T_s ⟨hje, Or.inl (q.trans het.symm)⟩)
            · rw [if_neg q]
        · rw [od_f (fun z => hc z.1), od_sum_0]
          intro j hj
          by_cases q : ev j = t
          · rw [if_pos q]
            refine od_f fun hl => ?_
            have hj2 := ((od_mk_bit n j).mp hl.1).2
            unfold od_in at hj2
            rw [q] at hj2
            omega
          · rw [if_neg q]
      · intro hCs
        rw [hrec]
        refine od_sum_0 fun t ht => ?_
        by_cases hf : 0 < cut t ∧ od_fit kd nm ev n t (cut t - 1) (mm_un cut t (cut t - 1))
        · rw [od_t hf]
          refine (hIH t ht hf.1).2 fun hC' => hCs ?_
          obtain ⟨e, he, het, hep⟩ := htop t ht hf.1
          have hin := od_in_un (ev := ev) het hep hf.1
          intro i k hk hT hkk
          by_cases q : k = e
          · subst q
            by_cases q2 : ev i = t
            · have := ev_c_lt (ev := ev) (ev_T_lt hT) q2
              unfold od_in
              rw [q2]
              omega
            · exact ((hin i).mp (hf.2.2 i k hk het hep hT q2)).1
          · exact ((hin i).mp (hC' i k hk hT ((hin k).mpr ⟨hkk, q⟩))).1
        · exact od_f hf
/-- the two answers -/
theorem od_ans {cu sm : Nat → Int32} (h3 : ∀ i, i < n → ev i < 3) (hX : od_X kd nm ev n cu) (hY : od_Y kd nm ev n sm) :
    cu (od_ix (fun t => ev_c ev t n)) = sm (2 ^ n - 1) := by
  have hC : od_Cs kd nm ev n (fun t => ev_c ev t n) := by
    intro i j hj hT _
    exact ev_c_lt (Nat.lt_trans (ev_T_lt hT) hj) rfl
  rw [(od_join h3 hX hY _ (fun t => ev_c ev t n) (Nat.lt_succ_self _) (fun t _ => Nat.le_refl _)).1 hC]
  congr 1
  apply Nat.eq_of_testBit_eq
  intro i
  rw [Nat.testBit_two_pow_sub_one]
  rw [Bool.eq_iff_iff, od_mk_bit, decide_eq_true_iff]
  exact ⟨fun h => h.1, fun h => ⟨h, ev_c_lt h rfl⟩⟩
end
end
section
/-! X: the small methods -/
theorem mm_in2 {x : Int32} (h : x = 0 ∨ x = 1) : vp_in x 2 := by
  rcases h with rfl | rfl
  · exact vp_in_iff.mpr (by decide)
  · exact vp_in_iff.mpr (by decide)
theorem mm_un_self (f : Nat → Nat) (k : Nat) : mm_un f k (f k) = f := mm_un_id rfl
theorem mm_upd_self (f : Nat → Int32) (k : Nat) : upd f k (f k) = f := mm_upd_id rfl
theorem mm_4 (t d : Nat) : (4 : Int32) * nI t + nI d = nI (4 * t + d) := by
  rw [show (4 : Int32) = nI 4 from rfl, pk_mul, nI_add]
theorem mm_3 (t d : Nat) : (3 : Int32) * nI t + nI d = nI (3 * t + d) := by
  rw [show (3 : Int32) = nI 3 from rfl, pk_mul, nI_add]
/-- the locks that a thread holds -/
def mm_hv (H : Nat → Int32) (t : Nat) : Nat := (if H 0 = nI t then 1 else 0) + (if H 1 = nI t then 2 else 0)
section
variable {post : Int32 → Prop} {u : SX}
theorem xw_bt0 {t : Nat} (ht : t < 3) (h : post 0) : wpX_badThread post u (nI t) := by
  obtain ⟨a1, a2, a3, a4, a5, a6, a7, a8, a9, a10, a11, a12, a13, a14, a15, a16, a17, a18, a19, a20, a21, a22, a23, a24, a25⟩ := u
  exact br_f (nI_pos (by omega)) (br_t (nI_lt (b := 3) ht (by decide)) h)
theorem xw_bt1 {p : Int32} (hp : p < 0 ∨ nI 3 ≤ p) (h : post 1) : wpX_badThread post u p := by
  obtain ⟨a1, a2, a3, a4, a5, a6, a7, a8, a9, a10, a11, a12, a13, a14, a15, a16, a17, a18, a19, a20, a21, a22, a23, a24, a25⟩ := u
  refine br_c (fun _ => h) (fun z => br_f ?_ h)
  exact Int32.not_lt.mpr (hp.resolve_left z)
theorem xw_b20 {t : Nat} (ht : t < 2) (h : post 0) : wpX_badTwo post u (nI t) := by
  obtain ⟨a1, a2, a3, a4, a5, a6, a7, a8, a9, a10, a11, a12, a13, a14, a15, a16, a17, a18, a19, a20, a21, a22, a23, a24, a25⟩ := u
  exact br_f (nI_pos (by omega)) (br_t (nI_le (b := 1) (by omega) (by decide)) h)
theorem xw_b21 {p : Int32} (hp : p < 0 ∨ nI 2 ≤ p) (h : post 1) : wpX_badTwo post u p := by
  obtain ⟨a1, a2, a3, a4, a5, a6, a7, a8, a9, a10, a11, a12, a13, a14, a15, a16, a17, a18, a19, a20, a21, a22, a23, a24, a25⟩ := u
  refine br_c (fun _ => h) (fun z => br_f ?_ h)
  intro q
  have a := hp.resolve_left z
  rw [Int32.le_iff_toInt_le] at a q
  rw [nI_toInt (by omega)] at a
  have e : (1 : Int32).toInt = 1 := by decide
  omega
end
section
variable {z D ev eo eh ck kc ep te : Nat → Nat} {kd nm bg R V H ol cu fg si tb pk : Nat → Int32} {n : Nat} {fc ff fo fd : Int32}
theorem xw_isEnabled {post : Int32 → Prop} {t : Nat} (ht : t < 3) (hP : mm_P z kd nm) (hd : D t ≤ z t)
    (h1 : mm_en z kd nm t (V, R, H, D) = true → post 1) (h0 : mm_en z kd nm t (V, R, H, D) = false → post 0) : wpX_isEnabled post (fc, ff, fo, fd, mm_nD z, kd, nm, bg, mm_nD D, R, V, H, mm_nD ev, mm_nD eo, mm_nD eh, ol, mm_nD ck, mm_nD kc, mm_nD ep, mm_nD te, cu, fg, si, tb, pk) (nI t) := by
  have ec : (nI t).toNatClampNeg = t := nI_clamp (by omega)
  have hi3 : vp_in (nI t) 3 := vp_in_nI ht (by omega)
  have hz := hP.1 t ht
  have eq := nI_eq (a := D t) (b := z t) (by omega) (by omega)
  by_cases e : D t = z t
  · have hf : mm_en z kd nm t (V, R, H, D) = false := Bool.eq_false_iff.mpr fun q => (mm_en_iff.mp q).1 e
    simp only [wpX_isEnabled, forall_eq, mm_nDa, ec, hi3, true_and, eq]
    exact br_t e (h0 hf)
  · have hi12 : vp_in (nI (4 * t + D t)) 12 := vp_in_nI (by omega) (by omega)
    have ec2 : (nI (4 * t + D t)).toNatClampNeg = 4 * t + D t := nI_clamp (by omega)
    simp only [wpX_isEnabled, forall_eq, mm_nDa, ec, hi3, true_and, eq, mm_4, hi12, ec2]
    refine br_f e ?_
    rcases hP.2.2 t (D t) ht (by omega) with ⟨hk, hx⟩ | ⟨hk, hx⟩ | hk | ⟨hk, hx⟩ | ⟨hk, hx⟩
    · exact br_f (by rw [hk]; decide) (br_f (by rw [hk]; decide) (h1 (mm_en_iff.mpr ⟨e, fun q => absurd (hk.symm.trans q) (by decide), fun q => absurd (hk.symm.trans q) (by decide)⟩)))
    · exact br_f (by rw [hk]; decide) (br_f (by rw [hk]; decide) (h1 (mm_en_iff.mpr ⟨e, fun q => absurd (hk.symm.trans q) (by decide), fun q => absurd (hk.symm.trans q) (by decide)⟩)))
    · exact br_f (by rw [hk]; decide) (br_f (by rw [hk]; decide) (h1 (mm_en_iff.mpr ⟨e, fun q => absurd (hk.symm.trans q) (by decide), fun q => absurd (hk.symm.trans q) (by decide)⟩)))
    · exact br_t hk ⟨mm_in2 hx, br_c (fun hh => h1 (mm_en_iff.mpr ⟨e, fun _ => hh, fun q => absurd (hk.symm.trans q) (by decide)⟩)) (fun hh => h0 (Bool.eq_false_iff.mpr fun q => hh ((mm_en_iff.mp q).2.1 hk)))⟩
    · exact br_f (by rw [hk]; decide) (br_t hk ⟨mm_in2 hx, br_c (fun hh => h1 (mm_en_iff.mpr ⟨e, fun q => absurd (hk.symm.trans q) (by decide), fun _ => hh⟩)) (fun hh => h0 (Bool.eq_false_iff.mpr fun q => hh ((mm_en_iff.mp q).2.2 hk)))⟩)
theorem xw_isOwn {post : Int32 → Prop} {t : Nat} (ht : t < 3) (hP : mm_P z kd nm) (hd : D t ≤ z t)
    (h1 : oc_own z kd t (V, R, H, D) = true → post 1) (h0 : oc_own z kd t (V, R, H, D) = false → post 0) : wpX_isOwn post (fc, ff, fo, fd, mm_nD z, kd, nm, bg, mm_nD D, R, V, H, mm_nD ev, mm_nD eo, mm_nD eh, ol, mm_nD ck, mm_nD kc, mm_nD ep, mm_nD te, cu, fg, si, tb, pk) (nI t) := by
  have ec : (nI t).toNatClampNeg = t := nI_clamp (by omega)
  have hi3 : vp_in (nI t) 3 := vp_in_nI ht (by omega)
  have hz := hP.1 t ht
  have eq := nI_leI (a := z t) (b := D t) (by omega) (by omega)
  by_cases e : z t ≤ D t
  · have hf : oc_own z kd t (V, R, H, D) = false := Bool.eq_false_iff.mpr fun q => Nat.lt_irrefl _ (Nat.lt_of_lt_of_le (oc_own_iff.mp q).1 e)
    simp only [wpX_isOwn, forall_eq, mm_nDa, ec, hi3, true_and, eq]
    exact br_t e (h0 hf)
  · have hi12 : vp_in (nI (4 * t + D t)) 12 := vp_in_nI (by omega) (by omega)
    have ec2 : (nI (4 * t + D t)).toNatClampNeg = 4 * t + D t := nI_clamp (by omega)
    simp only [wpX_isOwn, forall_eq, mm_nDa, ec, hi3, true_and, eq, mm_4, hi12, ec2]
    exact br_f e (br_c (fun hh => h1 (oc_own_iff.mpr ⟨Nat.lt_of_not_le e, hh⟩)) (fun hh => h0 (Bool.eq_false_iff.mpr fun q => hh (oc_own_iff.mp q).2)))
theorem xw_perform {post : Int32 → SX → Prop} {t : Nat} {fc : Int32} (ht : t < 3) (hP : mm_P z kd nm) (hd : D t < z t)
    (h : ∀ V' R' H' D', mm_stp kd nm t (V, R, H, D) = (V', R', H', D') → post (mm_old kd nm t (V, R, H, D)) (fc, ff, fo, fd, mm_nD z, kd, nm, bg, mm_nD D', R', V', H', mm_nD ev, mm_nD eo, mm_nD eh, ol, mm_nD ck, mm_nD kc, mm_nD ep, mm_nD te, cu, fg, si, tb, pk)) : wpX_perform post (fc, ff, fo, fd, mm_nD z, kd, nm, bg, mm_nD D, R, V, H, mm_nD ev, mm_nD eo, mm_nD eh, ol, mm_nD ck, mm_nD kc, mm_nD ep, mm_nD te, cu, fg, si, tb, pk) (nI t) := by
  have ec : (nI t).toNatClampNeg = t := nI_clamp (by omega)
  have hi3 : vp_in (nI t) 3 := vp_in_nI ht (by omega)
  have hz := hP.1 t ht
  have hi12 : vp_in (nI (4 * t + D t)) 12 := vp_in_nI (by omega) (by omega)
  have ec2 : (nI (4 * t + D t)).toNatClampNeg = 4 * t + D t := nI_clamp (by omega)
  simp only [wpX_perform, wX_perform_122, wX_perform_123, forall_eq, mm_nDa, ec, hi3, true_and, mm_4, hi12, ec2, nI_1, mm_upd_nD]
  rcases hP.2.2 t (D t) ht hd with ⟨hk, hx⟩ | ⟨hk, hx⟩ | hk | ⟨hk, hx⟩ | ⟨hk, hx⟩
  · have h' := h _ _ _ _ (mm_stp0 (s := (V, R, H, D)) hk)
    have eo : mm_old kd nm t (V, R, H, D) = R t := if_neg (fun q => absurd (hk.symm.trans q) (by decide))
    rw [eo] at h'
    exact br_t hk ⟨mm_in2 hx, h'⟩
  · have h' := h _ _ _ _ (mm_stp1 (s := (V, R, H, D)) hk)
    have eo : mm_old kd nm t (V, R, H, D) = V (nm (4 * t + D t)).toNatClampNeg := if_pos hk
    rw [eo] at h'
    exact br_f (by rw [hk]; decide) (br_t hk ⟨mm_in2 hx, mm_in2 hx, h'⟩)
  · have h' := h _ _ _ _ (mm_stp2 (s := (V, R, H, D)) hk)
    have eo : mm_old kd nm t (V, R, H, D) = R t := if_neg (fun q => absurd (hk.symm.trans q) (by decide))
    rw [eo] at h'
    exact br_f (by rw [hk]; decide) (br_f (by rw [hk]; decide) (br_t hk h'))
  · have h' := h _ _ _ _ (mm_stp3 (s := (V, R, H, D)) hk)
    have eo : mm_old kd nm t (V, R, H, D) = R t := if_neg (fun q => absurd (hk.symm.trans q) (by decide))
    rw [eo] at h'
    exact br_f (by rw [hk]; decide) (br_f (by rw [hk]; decide) (br_f (by rw [hk]; decide) (br_t hk ⟨mm_in2 hx, h'⟩)))
  · have h' := h _ _ _ _ (mm_stp4 (s := (V, R, H, D)) hk)
    have eo : mm_old kd nm t (V, R, H, D) = R t := if_neg (fun q => absurd (hk.symm.trans q) (by decide))
    rw [eo] at h'
    exact br_f (by rw [hk]; decide) (br_f (by rw [hk]; decide) (br_f (by rw [hk]; decide) (br_f (by rw [hk]; decide) ⟨mm_in2 hx, h'⟩)))
theorem xw_takeBack {post : SX → Prop} {t : Nat} {fc o : Int32} {V' R' H' : Nat → Int32} {D' : Nat → Nat} (ht : t < 3) (hP : mm_P z kd nm) (hd : D t < z t) (he : mm_en z kd nm t (V, R, H, D) = true)
    (hs : mm_stp kd nm t (V, R, H, D) = (V', R', H', D')) (ho : kd (4 * t + D t) ≠ 3 → kd (4 * t + D t) ≠ 4 → o = mm_old kd nm t (V, R, H, D)) (h : post (fc, ff, fo, fd, mm_nD z, kd, nm, bg, mm_nD D, R, V, H, mm_nD ev, mm_nD eo, mm_nD eh, ol, mm_nD ck, mm_nD kc, mm_nD ep, mm_nD te, cu, fg, si, tb, pk)) :
    wpX_takeBack post (fc, ff, fo, fd, mm_nD z, kd, nm, bg, mm_nD D', R', V', H', mm_nD ev, mm_nD eo, mm_nD eh, ol, mm_nD ck, mm_nD kc, mm_nD ep, mm_nD te, cu, fg, si, tb, pk) (nI t) o := by
  have ec : (nI t).toNatClampNeg = t := nI_clamp (by omega)
  have hi3 : vp_in (nI t) 3 := vp_in_nI ht (by omega)
  have hz := hP.1 t ht
  have hi12 : vp_in (nI (4 * t + D t)) 12 := vp_in_nI (by omega) (by omega)
  have ec2 : (nI (4 * t + D t)).toNatClampNeg = 4 * t + D t := nI_clamp (by omega)
  have hE := mm_en_iff.mp he
  have eD : D' = mm_un D t (D t + 1) := by
    have := mm_stpD (kd := kd) (nm := nm) (t := t) (s := (V, R, H, D))
    rw [hs] at this
    exact this
  subst eD
  simp only [wpX_takeBack, forall_eq, mm_nDa, ec, hi3, true_and, mm_us, nI_pred, mm_upd_nD, mm_un2, mm_un_self, mm_4, hi12, ec2]
  rcases hP.2.2 t (D t) ht hd with ⟨hk, hx⟩ | ⟨hk, hx⟩ | hk | ⟨hk, hx⟩ | ⟨hk, hx⟩
  · have eo : mm_old kd nm t (V, R, H, D) = R t := if_neg (fun q => absurd (hk.symm.trans q) (by decide))
    rw [mm_stp0 (s := (V, R, H, D)) hk] at hs
    cases hs
    rw [ho (by rw [hk]; decide) (by rw [hk]; decide), eo]
    refine br_f (by rw [hk]; decide) (br_f (by rw [hk]; decide) ?_)
    dsimp only
    rw [mm_upd2, mm_upd_self]
    exact h
  · have eo : mm_old kd nm t (V, R, H, D) = V (nm (4 * t + D t)).toNatClampNeg := if_pos hk
    rw [mm_stp1 (s := (V, R, H, D)) hk] at hs
    cases hs
    rw [ho (by rw [hk]; decide) (by rw [hk]; decide), eo]
    refine br_t hk ⟨mm_in2 hx, ?_⟩
    dsimp only
    rw [mm_upd2, mm_upd_self]
    exact h
  · have eo : mm_old kd nm t (V, R, H, D) = R t := if_neg (fun q => absurd (hk.symm.trans q) (by decide))
    rw [mm_stp2 (s := (V, R, H, D)) hk] at hs
    cases hs
    rw [ho (by rw [hk]; decide) (by rw [hk]; decide), eo]
    refine br_f (by rw [hk]; decide) (br_f (by rw [hk]; decide) ?_)
    dsimp only
    rw [mm_upd2, mm_upd_self]
    exact h
  · rw [mm_stp3 (s := (V, R, H, D)) hk] at hs
    cases hs
    refine br_f (by rw [hk]; decide) (br_t (by rw [hk]; decide) (br_t hk ⟨mm_in2 hx, ?_⟩))
    dsimp only
    rw [mm_upd2, mm_upd_id (hE.2.1 hk)]
    exact h
  · rw [mm_stp4 (s := (V, R, H, D)) hk] at hs
    cases hs
    refine br_f (by rw [hk]; decide) (br_t (by rw [hk]; decide) (br_f (by rw [hk]; decide) ⟨mm_in2 hx, ?_⟩))
    dsimp only
    rw [mm_upd2, mm_upd_id (hE.2.2 hk)]
    exact h
theorem xw_heldBy {post : Int32 → Prop} {t : Nat} (h : post (nI (mm_hv H t))) : wpX_heldBy post (fc, ff, fo, fd, mm_nD z, kd, nm, bg, mm_nD D, R, V, H, mm_nD ev, mm_nD eo, mm_nD eh, ol, mm_nD ck, mm_nD kc, mm_nD ep, mm_nD te, cu, fg, si, tb, pk) (nI t) := by
  unfold mm_hv at h
  simp only [wpX_heldBy, wX_heldBy_15]
  by_cases a : H 0 = nI t
  · rw [if_pos a] at h
    refine br_t a ?_
    by_cases b : H 1 = nI t
    · rw [if_pos b] at h; exact br_t b h
    · rw [if_neg b] at h; exact br_f b h
  · rw [if_neg a] at h
    refine br_f a ?_
    by_cases b : H 1 = nI t
    · rw [if_pos b] at h; exact br_t b h
    · rw [if_neg b] at h; exact br_f b h
end
end
section
/-! X: conflicts, clocks -/
theorem mm_i10 : ((1 : Int32) = 0) = False := by decide
/-- what X's event arrays hold of the first N events -/
def rl_E (ev eo ep te : Nat → Nat) (N : Nat) : Prop :=
  N ≤ 8 ∧ ∀ i, i < N → ev i < 3 ∧ eo i = ev_o ev i ∧ ep i = ev_c ev (ev i) i ∧ te (ev_o ev i) = i ∧ ev_c ev (ev i) i < 4
theorem rl_o12 {ev eo ep te : Nat → Nat} {N i : Nat} (hE : rl_E ev eo ep te N) (hi : i < N) : ev_o ev i < 12 := by
  have a := hE.2 i hi
  unfold ev_o
  omega
section
variable {z D ev eo eh ck kc ep te : Nat → Nat} {kd nm bg R V H ol cu fg si tb pk : Nat → Int32} {n : Nat} {fc ff fo fd : Int32}
theorem xw_conflict_67 {post : Int32 → Prop} {a b : Nat} (ha : a < 12) (hb : b < 12) (h1 : (¬ 1 < kd a ∧ ¬ 1 < kd b ∧ (kd a = 1 ∨ kd b = 1)) → post 1) (h0 : ¬ (¬ 1 < kd a ∧ ¬ 1 < kd b ∧ (kd a = 1 ∨ kd b = 1)) → post 0) :
    wX_conflict_67 post (nI a) (nI b) fc ff fo fd (mm_nD z) kd nm bg (mm_nD D) R V H (mm_nD ev) (mm_nD eo) (mm_nD eh) ol (mm_nD ck) (mm_nD kc) (mm_nD ep) (mm_nD te) cu fg si tb pk := by
  have ea : (nI a).toNatClampNeg = a := nI_clamp (by omega)
  have eb : (nI b).toNatClampNeg = b := nI_clamp (by omega)
  have va : vp_in (nI a) 12 := vp_in_nI ha (by omega)
  have vb : vp_in (nI b) 12 := vp_in_nI hb (by omega)
  simp only [wX_conflict_67, wpX_isAccess, forall_eq, mm_nDa, true_and, and_true, true_implies, false_implies, not_false_eq_true, not_true_eq_false, mm_i10, eq_self, ea, eb, va, vb]
  exact br_c (fun p => h0 fun c => c.1 p) (fun p => br_c (fun q => h0 fun c => c.2.1 q) (fun q => br_c (fun r => h1 ⟨p, q, Or.inl r⟩) (fun r => br_c (fun s => h1 ⟨p, q, Or.inr s⟩) (fun s => h0 fun c => c.2.2.elim r s))))
theorem xw_conflict {post : Int32 → Prop} {i j N : Nat} (hE : rl_E ev eo ep te N) (hi : i < N) (hj : j < N) (h1 : ev_cf kd nm ev i j → post 1) (h0 : ¬ ev_cf kd nm ev i j → post 0) : wpX_conflict post (fc, ff, fo, fd, mm_nD z, kd, nm, bg, mm_nD D, R, V, H, mm_nD ev, mm_nD eo, mm_nD eh, ol, mm_nD ck, mm_nD kc, mm_nD ep, mm_nD te, cu, fg, si, tb, pk) (nI i) (nI j) := by
  have h8 := hE.1
  have ei : (nI i).toNatClampNeg = i := nI_clamp (by omega)
  have ej : (nI j).toNatClampNeg = j := nI_clamp (by omega)
  have vi : vp_in (nI i) 12 := vp_in_nI (by omega) (by omega)
  have vj : vp_in (nI j) 12 := vp_in_nI (by omega) (by omega)
  have oi := (hE.2 i hi).2.1
  have oj := (hE.2 j hj).2.1
  have li := rl_o12 hE hi
  have lj := rl_o12 hE hj
  have ti := (hE.2 i hi).1
  have tj := (hE.2 j hj).1
  have ea : (nI (ev_o ev i)).toNatClampNeg = ev_o ev i := nI_clamp (by omega)
  have eb : (nI (ev_o ev j)).toNatClampNeg = ev_o ev j := nI_clamp (by omega)
  have va : vp_in (nI (ev_o ev i)) 12 := vp_in_nI li (by omega)
  have vb : vp_in (nI (ev_o ev j)) 12 := vp_in_nI lj (by omega)
  have et := nI_eq (a := ev i) (b := ev j) (by omega) (by omega)
  simp only [wpX_conflict, wpX_isLocking, forall_eq, mm_nDa, true_and, and_true, true_implies, false_implies, not_false_eq_true, not_true_eq_false, mm_i10, eq_self, ei, ej, vi, vj, oi, oj, ea, eb, va, vb, et]
  refine br_c (fun a => h0 fun c => c.1 a) (fun a => br_c (fun b => ?_) (fun b => h0 fun c => b c.2.1))
  have h67 : (kd (ev_o ev i) < 3 ∨ kd (ev_o ev j) < 3) → wX_conflict_67 post (nI (ev_o ev i)) (nI (ev_o ev j)) fc ff fo fd (mm_nD z) kd nm bg (mm_nD D) R V H (mm_nD ev) (mm_nD eo) (mm_nD eh) ol (mm_nD ck) (mm_nD kc) (mm_nD ep) (mm_nD te) cu fg si tb pk := fun hl =>
    xw_conflict_67 li lj (fun c => h1 ⟨a, b, Or.inr c⟩) (fun c => h0 fun d => d.2.2.elim (fun e => hl.elim e.1 e.2) c)
  exact br_c (fun p => h67 (Or.inl p)) (fun p => br_c (fun q => h67 (Or.inr q)) (fun q => h1 ⟨a, b, Or.inl ⟨p, q⟩⟩))
theorem xw_handsOver {post : Int32 → Prop} {i j N : Nat} (hE : rl_E ev eo ep te N) (hi : i < N) (hj : j < N) (h1 : ev_ho kd nm ev i j → post 1) (h0 : ¬ ev_ho kd nm ev i j → post 0) : wpX_handsOver post (fc, ff, fo, fd, mm_nD z, kd, nm, bg, mm_nD D, R, V, H, mm_nD ev, mm_nD eo, mm_nD eh, ol, mm_nD ck, mm_nD kc, mm_nD ep, mm_nD te, cu, fg, si, tb, pk) (nI i) (nI j) := by
  have h8 := hE.1
  have ei : (nI i).toNatClampNeg = i := nI_clamp (by omega)
  have ej : (nI j).toNatClampNeg = j := nI_clamp (by omega)
  have vi : vp_in (nI i) 12 := vp_in_nI (by omega) (by omega)
  have vj : vp_in (nI j) 12 := vp_in_nI (by omega) (by omega)
  have oi := (hE.2 i hi).2.1
  have oj := (hE.2 j hj).2.1
  have li := rl_o12 hE hi
  have lj := rl_o12 hE hj
  have ea : (nI (ev_o ev i)).toNatClampNeg = ev_o ev i := nI_clamp (by omega)
  have eb : (nI (ev_o ev j)).toNatClampNeg = ev_o ev j := nI_clamp (by omega)
  have va : vp_in (nI (ev_o ev i)) 12 := vp_in_nI li (by omega)
  have vb : vp_in (nI (ev_o ev j)) 12 := vp_in_nI lj (by omega)
  simp only [wpX_handsOver, forall_eq, mm_nDa, true_and, and_true, true_implies, false_implies, not_false_eq_true, not_true_eq_false, mm_i10, eq_self, ei, ej, vi, vj, oi, oj, ea, eb, va, vb]
  exact br_c (fun a => br_c (fun b => br_c (fun c => h1 ⟨a, b, c⟩) (fun c => h0 fun q => c q.2.2)) (fun b => h0 fun q => b q.2.1)) (fun a => h0 fun q => a q.1)
/-- a row joined with another -/
def sc_J (ck c : Nat → Nat) (j i m : Nat) : Prop := (∀ k, (k < 3 * j + m ∨ 3 * j + 3 ≤ k) → c k = ck k) ∧ ∀ t, m ≤ t → t < 3 → c (3 * j + t) = max (ck (3 * j + t)) (ck (3 * i + t))
theorem sc_Js {j i m : Nat} {ck c : Nat → Nat} (hm : m < 3) (hne : i ≠ j) (h : sc_J (mm_un ck (3 * j + m) (max (ck (3 * j + m)) (ck (3 * i + m)))) c j i (m + 1)) : sc_J ck c j i m := by
  refine ⟨fun k hk => ?_, fun t h1 h2 => ?_⟩
  · rw [h.1 k (by omega), mm_ud (by omega)]
  · by_cases e : t = m
    · subst e; rw [h.1 _ (by omega), mm_us]
    · rw [h.2 t (by omega) h2, mm_ud (by omega), mm_ud (by omega)]
theorem xw_joinClock_l {post : SX → Prop} {i j : Nat} (hi : i < 12) (hj : j < 12) (hne : i ≠ j) : ∀ d m (ck : Nat → Nat), m + d = 3 → (∀ t, t < 3 → ck (3 * i + t) < 100 ∧ ck (3 * j + t) < 100) →
    (∀ c, sc_J ck c j i m → post (fc, ff, fo, fd, mm_nD z, kd, nm, bg, mm_nD D, R, V, H, mm_nD ev, mm_nD eo, mm_nD eh, ol, mm_nD c, mm_nD kc, mm_nD ep, mm_nD te, cu, fg, si, tb, pk)) → wX_joinClock_2 post (nI j) (nI i) fc ff fo fd (d + 1) (nI m) (mm_nD z) kd nm bg (mm_nD D) R V H (mm_nD ev) (mm_nD eo) (mm_nD eh) ol (mm_nD ck) (mm_nD kc) (mm_nD ep) (mm_nD te) cu fg si tb pk := by
  intro d
  induction d with
  | zero =>
    intro m ck hm _ h
    have : m = 3 := by omega
    subst this
    exact br_t (show (3 : Int32) ≤ nI 3 from by decide) (h ck ⟨fun k _ => rfl, fun t a b => by omega⟩)
  | succ d ih =>
    intro m ck hm hb h
    have hl : ¬ (3 : Int32) ≤ nI m := nI_ge (b := 3) (by omega) (by decide)
    have e1 : (nI (3 * j + m)).toNatClampNeg = 3 * j + m := nI_clamp (by omega)
    have e2 : (nI (3 * i + m)).toNatClampNeg = 3 * i + m := nI_clamp (by omega)
    have v1 : vp_in (nI (3 * j + m)) 36 := vp_in_nI (by omega) (by omega)
    have v2 : vp_in (nI (3 * i + m)) 36 := vp_in_nI (by omega) (by omega)
    have b := hb m (by omega)
    have el := nI_leI (a := ck (3 * i + m)) (b := ck (3 * j + m)) (by omega) (by omega)
    have hstep : wX_joinClock_2 post (nI j) (nI i) fc ff fo fd (d + 1) (nI (m + 1)) (mm_nD z) kd nm bg (mm_nD D) R V H (mm_nD ev) (mm_nD eo) (mm_nD eh) ol (mm_nD (mm_un ck (3 * j + m) (max (ck (3 * j + m)) (ck (3 * i + m))))) (mm_nD kc) (mm_nD ep) (mm_nD te) cu fg si tb pk := by
      refine ih (m + 1) _ (by omega) (fun t ht => ?_) (fun c hc => h c (sc_Js (by omega) hne hc))
      have bt := hb t ht
      refine ⟨by rw [mm_ud (by omega)]; exact bt.1, ?_⟩
      by_cases e : t = m
      · subst e; rw [mm_us]; omega
      · rw [mm_ud (by omega)]; exact bt.2
    rw [wX_joinClock_2]
    simp only [forall_eq, mm_nDa, true_and, and_true, true_implies, false_implies, not_false_eq_true, not_true_eq_false, mm_i10, eq_self, mm_3, e1, e2, v1, v2, el, nI_1, mm_upd_nD]
    refine br_f hl (br_c (fun q => ?_) (fun q => ?_))
    · rw [Nat.max_eq_left q] at hstep; exact hstep
    · rw [Nat.max_eq_right (by omega)] at hstep; exact hstep
theorem xw_joinClock {post : SX → Prop} {i j : Nat} (hi : i < 12) (hj : j < 12) (hne : i ≠ j) (hb : ∀ t, t < 3 → ck (3 * i + t) < 100 ∧ ck (3 * j + t) < 100)
    (h : ∀ c, sc_J ck c j i 0 → post (fc, ff, fo, fd, mm_nD z, kd, nm, bg, mm_nD D, R, V, H, mm_nD ev, mm_nD eo, mm_nD eh, ol, mm_nD c, mm_nD kc, mm_nD ep, mm_nD te, cu, fg, si, tb, pk)) : wpX_joinClock post (fc, ff, fo, fd, mm_nD z, kd, nm, bg, mm_nD D, R, V, H, mm_nD ev, mm_nD eo, mm_nD eh, ol, mm_nD ck, mm_nD kc, mm_nD ep, mm_nD te, cu, fg, si, tb, pk) (nI j) (nI i) :=
  ⟨4, xw_joinClock_l hi hj hne 3 0 ck rfl hb h⟩
theorem xw_joinKnown_l {post : SX → Prop} {i j : Nat} (hi : i < 12) (hj : j < 12) (hne : i ≠ j) : ∀ d m (kc : Nat → Nat), m + d = 3 → (∀ t, t < 3 → kc (3 * i + t) < 100 ∧ kc (3 * j + t) < 100) →
    (∀ c, sc_J kc c j i m → post (fc, ff, fo, fd, mm_nD z, kd, nm, bg, mm_nD D, R, V, H, mm_nD ev, mm_nD eo, mm_nD eh, ol, mm_nD ck, mm_nD c, mm_nD ep, mm_nD te, cu, fg, si, tb, pk)) → wX_joinKnown_2 post (nI j) (nI i) fc ff fo fd (d + 1) (nI m) (mm_nD z) kd nm bg (mm_nD D) R V H (mm_nD ev) (mm_nD eo) (mm_nD eh) ol (mm_nD ck) (mm_nD kc) (mm_nD ep) (mm_nD te) cu fg si tb pk := by
  intro d
  induction d with
  | zero =>
    intro m kc hm _ h
    have : m = 3 := by omega
    subst this
    exact br_t (show (3 : Int32) ≤ nI 3 from by decide) (h kc ⟨fun k _ => rfl, fun t a b => by omega⟩)
  | succ d ih =>
    intro m kc hm hb h
    have hl : ¬ (3 : Int32) ≤ nI m := nI_ge (b := 3) (by omega) (by decide)
    have e1 : (nI (3 * j + m)).toNatClampNeg = 3 * j + m := nI_clamp (by omega)
    have e2 : (nI (3 * i + m)).toNatClampNeg = 3 * i + m := nI_clamp (by omega)
    have v1 : vp_in (nI (3 * j + m)) 36 := vp_in_nI (by omega) (by omega)
    have v2 : vp_in (nI (3 * i + m)) 36 := vp_in_nI (by omega) (by omega)
    have b := hb m (by omega)
    have el := nI_leI (a := kc (3 * i + m)) (b := kc (3 * j + m)) (by omega) (by omega)
    have hstep : wX_joinKnown_2 post (nI j) (nI i) fc ff fo fd (d + 1) (nI (m + 1)) (mm_nD z) kd nm bg (mm_nD D) R V H (mm_nD ev) (mm_nD eo) (mm_nD eh) ol (mm_nD ck) (mm_nD (mm_un kc (3 * j + m) (max (kc (3 * j + m)) (kc (3 * i + m))))) (mm_nD ep) (mm_nD te) cu fg si tb pk := by
      refine ih (m + 1) _ (by omega) (fun t ht => ?_) (fun c hc => h c (sc_Js (by omega) hne hc))
      have bt := hb t ht
      refine ⟨by rw [mm_ud (by omega)]; exact bt.1, ?_⟩
      by_cases e : t = m
      · subst e; rw [mm_us]; omega
      · rw [mm_ud (by omega)]; exact bt.2
    rw [wX_joinKnown_2]
    simp only [forall_eq, mm_nDa, true_and, and_true, true_implies, false_implies, not_false_eq_true, not_true_eq_false, mm_i10, eq_self, mm_3, e1, e2, v1, v2, el, nI_1, mm_upd_nD]
    refine br_f hl (br_c (fun q => ?_) (fun q => ?_))
    · rw [Nat.max_eq_left q] at hstep; exact hstep
    · rw [Nat.max_eq_right (by omega)] at hstep; exact hstep
theorem xw_joinKnown {post : SX → Prop} {i j : Nat} (hi : i < 12) (hj : j < 12) (hne : i ≠ j) (hb : ∀ t, t < 3 → kc (3 * i + t) < 100 ∧ kc (3 * j + t) < 100)
    (h : ∀ c, sc_J kc c j i 0 → post (fc, ff, fo, fd, mm_nD z, kd, nm, bg, mm_nD D, R, V, H, mm_nD ev, mm_nD eo, mm_nD eh, ol, mm_nD ck, mm_nD c, mm_nD ep, mm_nD te, cu, fg, si, tb, pk)) : wpX_joinKnown post (fc, ff, fo, fd, mm_nD z, kd, nm, bg, mm_nD D, R, V, H, mm_nD ev, mm_nD eo, mm_nD eh, ol, mm_nD ck, mm_nD kc, mm_nD ep, mm_nD te, cu, fg, si, tb, pk) (nI j) (nI i) :=
  ⟨4, xw_joinKnown_l hi hj hne 3 0 kc rfl hb h⟩
/-- the row of event n while it is joined with the first m -/
def sc_I (b : Bool) (kd nm : Nat → Int32) (ev ck c : Nat → Nat) (n m : Nat) : Prop :=
  (∀ k, k < 3 * n → c k = ck k) ∧ ∀ t, t < 3 → ∀ p, p < c (3 * n + t) ↔ ∃ i, i < m ∧ ev_E b kd nm ev i n ∧ p < ck (3 * i + t)
theorem sc_skip {b : Bool} {c : Nat → Nat} {m : Nat} (h : sc_I b kd nm ev ck c n m) (hn : ¬ ev_E b kd nm ev m n) : sc_I b kd nm ev ck c n (m + 1) := by
  refine ⟨h.1, fun t ht p => (h.2 t ht p).trans ⟨?_, ?_⟩⟩
  · rintro ⟨i, a, q, r⟩; exact ⟨i, by omega, q, r⟩
  · rintro ⟨i, a, q, r⟩
    by_cases e : i = m
    · subst e; exact absurd q hn
    · exact ⟨i, by omega, q, r⟩
theorem sc_join {b : Bool} {c c' : Nat → Nat} {m : Nat} (h : sc_I b kd nm ev ck c n m) (hm : m < n) (hJ : sc_J c c' n m 0) (hE : ev_E b kd nm ev m n) : sc_I b kd nm ev ck c' n (m + 1) := by
  refine ⟨fun k hk => by rw [hJ.1 k (by omega), h.1 k hk], fun t ht p => ?_⟩
  rw [hJ.2 t (by omega) ht, h.1 (3 * m + t) (by omega)]
  constructor
  · intro hp
    by_cases e : p < ck (3 * m + t)
    · exact ⟨m, by omega, hE, e⟩
    · obtain ⟨i, a, q, r⟩ := (h.2 t ht p).mp (by omega)
      exact ⟨i, by omega, q, r⟩
  · rintro ⟨i, a, q, r⟩
    by_cases e : i = m
    · subst e; omega
    · have := (h.2 t ht p).mpr ⟨i, by omega, q, r⟩
      omega
theorem sc_lt {b : Bool} {c : Nat → Nat} {m : Nat} (h : sc_I b kd nm ev ck c n m) (hC : ev_C b kd nm ev n ck) (hm : m ≤ n) (hn : n ≤ 8) {t : Nat} (ht : t < 3) : c (3 * n + t) < 100 := by
  apply Nat.lt_of_not_le
  intro q
  obtain ⟨i, a, _, r⟩ := (h.2 t ht 99).mp (by omega)
  have := ev_C_le hC (j := i) (by omega) ht
  omega
theorem sc_b {b : Bool} {c : Nat → Nat} {m : Nat} (h : sc_I b kd nm ev ck c n m) (hC : ev_C b kd nm ev n ck) (hm : m < n) (hn : n ≤ 8) : ∀ t, t < 3 → c (3 * m + t) < 100 ∧ c (3 * n + t) < 100 := by
  intro t ht
  refine ⟨?_, sc_lt h hC (by omega) hn ht⟩
  rw [h.1 _ (by omega)]
  have := ev_C_le hC (j := m) (by omega) ht
  omega
theorem sc_done {b : Bool} {c : Nat → Nat} (h : sc_I b kd nm ev ck c n n) (hC : ev_C b kd nm ev n ck) : ev_C b kd nm ev (n + 1) (mm_un c (3 * n + ev n) (ev_c ev (ev n) n + 1)) := by
  refine ev_C_new (ev_C_cg (fun _ _ => rfl) (fun k hk => ?_) hC) (fun t ht hne p => ?_) (mm_us _ _ _)
  · rw [mm_ud (by omega)]; exact h.1 k hk
  · rw [mm_ud (by omega), h.2 t ht p]
    constructor
    · rintro ⟨i, a, q, r⟩
      exact ⟨i, a, q, by rw [mm_ud (by omega), h.1 _ (by omega)]; exact r⟩
    · rintro ⟨i, a, q, r⟩
      rw [mm_ud (by omega), h.1 _ (by omega)] at r
      exact ⟨i, a, q, r⟩
section
variable {post : SX → Prop} {J : Int32 → Int32 → Int32 → Int32 → Int32 → (Nat → Int32) → (Nat → Int32) → (Nat → Int32) → (Nat → Int32) → (Nat → Int32) → (Nat → Int32) → (Nat → Int32) → (Nat → Int32) → (Nat → Int32) → (Nat → Int32) → (Nat → Int32) → (Nat → Int32) → (Nat → Int32) → (Nat → Int32) → (Nat → Int32) → (Nat → Int32) → (Nat → Int32) → (Nat → Int32) → (Nat → Int32) → (Nat → Int32) → (Nat → Int32) → Prop} {m : Nat} {c q : Nat → Nat}
theorem xw_sc95 (hE : rl_E ev eo ep te (n + 1)) (hK : ev_C true kd nm ev n kc) (hm : m < n) (he : ev_E true kd nm ev m n) (hc : sc_I false kd nm ev ck c n (m + 1)) (hq : sc_I true kd nm ev kc q n m)
    (hJ : ∀ c' q', sc_I false kd nm ev ck c' n (m + 1) → sc_I true kd nm ev kc q' n (m + 1) → J (nI (m + 1)) fc ff fo fd (mm_nD z) kd nm bg (mm_nD D) R V H (mm_nD ev) (mm_nD eo) (mm_nD eh) ol (mm_nD c') (mm_nD q') (mm_nD ep) (mm_nD te) cu fg si tb pk) :
    wX_setClocks_95 post J (nI n) (nI m) fc ff fo fd (mm_nD z) kd nm bg (mm_nD D) R V H (mm_nD ev) (mm_nD eo) (mm_nD eh) ol (mm_nD c) (mm_nD q) (mm_nD ep) (mm_nD te) cu fg si tb pk := by
  have h8 := hE.1
  unfold wX_setClocks_95
  refine xw_joinKnown (by omega) (by omega) (by omega) (sc_b hq hK hm (by omega)) (fun q' hJ' => ?_)
  refine nm_r (nI_1 m) ?_
  exact hJ c q' hc (sc_join hq hm hJ' he)
theorem xw_sc82 {x : Int32} (hE : rl_E ev eo ep te (n + 1)) (hK : ev_C true kd nm ev n kc) (hm : m < n) (hx : (x = 1 ∧ ev m = ev n) ∨ (x = 0 ∧ ev m ≠ ev n)) (hc : sc_I false kd nm ev ck c n (m + 1)) (hq : sc_I true kd nm ev kc q n m)
    (hJ : ∀ c' q', sc_I false kd nm ev ck c' n (m + 1) → sc_I true kd nm ev kc q' n (m + 1) → J (nI (m + 1)) fc ff fo fd (mm_nD z) kd nm bg (mm_nD D) R V H (mm_nD ev) (mm_nD eo) (mm_nD eh) ol (mm_nD c') (mm_nD q') (mm_nD ep) (mm_nD te) cu fg si tb pk) :
    wX_setClocks_82 post J (nI n) (nI m) x fc ff fo fd (mm_nD z) kd nm bg (mm_nD D) R V H (mm_nD ev) (mm_nD eo) (mm_nD eh) ol (mm_nD c) (mm_nD q) (mm_nD ep) (mm_nD te) cu fg si tb pk := by
  have h8 := hE.1
  unfold wX_setClocks_82
  rcases hx with ⟨rfl, hx⟩ | ⟨rfl, hx⟩
  · exact br_f (by decide) (xw_sc95 hE hK hm ⟨hm, Or.inl hx⟩ hc hq hJ)
  · refine br_t rfl (xw_handsOver hE (by omega) (by omega) (fun ho => ?_) (fun ho => ?_))
    · exact br_f (by decide) (xw_sc95 hE hK hm ⟨hm, Or.inr ho⟩ hc hq hJ)
    · refine br_t rfl (nm_r (nI_1 m) ?_)
      exact hJ c q hc (sc_skip hq (fun z => z.2.elim hx ho))
theorem xw_sc76 {x : Int32} (hE : rl_E ev eo ep te (n + 1)) (hC : ev_C false kd nm ev n ck) (hK : ev_C true kd nm ev n kc) (hm : m < n) (he : ev_E false kd nm ev m n) (hx : (x = 1 ∧ ev m = ev n) ∨ (x = 0 ∧ ev m ≠ ev n)) (hc : sc_I false kd nm ev ck c n m) (hq : sc_I true kd nm ev kc q n m)
    (hJ : ∀ c' q', sc_I false kd nm ev ck c' n (m + 1) → sc_I true kd nm ev kc q' n (m + 1) → J (nI (m + 1)) fc ff fo fd (mm_nD z) kd nm bg (mm_nD D) R V H (mm_nD ev) (mm_nD eo) (mm_nD eh) ol (mm_nD c') (mm_nD q') (mm_nD ep) (mm_nD te) cu fg si tb pk) :
    wX_setClocks_76 post J (nI n) (nI m) x fc ff fo fd (mm_nD z) kd nm bg (mm_nD D) R V H (mm_nD ev) (mm_nD eo) (mm_nD eh) ol (mm_nD c) (mm_nD q) (mm_nD ep) (mm_nD te) cu fg si tb pk := by
  have h8 := hE.1
  unfold wX_setClocks_76
  refine xw_joinClock (by omega) (by omega) (by omega) (sc_b hc hC hm (by omega)) (fun c' hJ' => ?_)
  exact xw_sc82 hE hK hm hx (sc_join hc hm hJ' he) hq hJ
theorem xw_sc62 {x : Int32} (hE : rl_E ev eo ep te (n + 1)) (hC : ev_C false kd nm ev n ck) (hK : ev_C true kd nm ev n kc) (hm : m < n) (hx : (x = 1 ∧ ev m = ev n) ∨ (x = 0 ∧ ev m ≠ ev n)) (hc : sc_I false kd nm ev ck c n m) (hq : sc_I true kd nm ev kc q n m)
    (hJ : ∀ c' q', sc_I false kd nm ev ck c' n (m + 1) → sc_I true kd nm ev kc q' n (m + 1) → J (nI (m + 1)) fc ff fo fd (mm_nD z) kd nm bg (mm_nD D) R V H (mm_nD ev) (mm_nD eo) (mm_nD eh) ol (mm_nD c') (mm_nD q') (mm_nD ep) (mm_nD te) cu fg si tb pk) :
    wX_setClocks_62 post J (nI n) (nI m) x fc ff fo fd (mm_nD z) kd nm bg (mm_nD D) R V H (mm_nD ev) (mm_nD eo) (mm_nD eh) ol (mm_nD c) (mm_nD q) (mm_nD ep) (mm_nD te) cu fg si tb pk := by
  unfold wX_setClocks_62
  rcases hx with ⟨rfl, hx⟩ | ⟨rfl, hx⟩
  · exact br_f (by decide) (xw_sc76 hE hC hK hm ⟨hm, Or.inl hx⟩ (Or.inl ⟨rfl, hx⟩) hc hq hJ)
  · refine br_t rfl (xw_conflict hE (by omega) (by omega) (fun ho => ?_) (fun ho => ?_))
    · exact br_f (by decide) (xw_sc76 hE hC hK hm ⟨hm, Or.inr ho⟩ (Or.inr ⟨rfl, hx⟩) hc hq hJ)
    · exact br_t rfl (xw_sc82 hE hK hm (Or.inr ⟨rfl, hx⟩) (sc_skip hc (fun z => z.2.elim hx ho)) hq hJ)
end
theorem xw_sc37 {post : SX → Prop} (hE : rl_E ev eo ep te (n + 1)) (hC : ev_C false kd nm ev n ck) (hK : ev_C true kd nm ev n kc)
    (h : ∀ c q, ev_C false kd nm ev (n + 1) c → ev_C true kd nm ev (n + 1) q → post (fc, ff, fo, fd, mm_nD z, kd, nm, bg, mm_nD D, R, V, H, mm_nD ev, mm_nD eo, mm_nD eh, ol, mm_nD c, mm_nD q, mm_nD ep, mm_nD te, cu, fg, si, tb, pk)) :
    ∀ d m c q, m + d = n → sc_I false kd nm ev ck c n m → sc_I true kd nm ev kc q n m → wX_setClocks_37 post (nI n) (d + 1) (nI m) fc ff fo fd (mm_nD z) kd nm bg (mm_nD D) R V H (mm_nD ev) (mm_nD eo) (mm_nD eh) ol (mm_nD c) (mm_nD q) (mm_nD ep) (mm_nD te) cu fg si tb pk := by
  have h8 := hE.1
  have en : (nI n).toNatClampNeg = n := nI_clamp (by omega)
  have vn : vp_in (nI n) 12 := vp_in_nI (by omega) (by omega)
  have tn := (hE.2 n (by omega)).1
  have pn := (hE.2 n (by omega)).2.2.1
  intro d
  induction d with
  | zero =>
    intro m c q hm hc hq
    have : m = n := by omega
    subst this
    have e1 : (nI (3 * m + ev m)).toNatClampNeg = 3 * m + ev m := nI_clamp (by omega)
    have v1 : vp_in (nI (3 * m + ev m)) 36 := vp_in_nI (by omega) (by omega)
    rw [wX_setClocks_37]
    simp only [forall_eq, mm_nDa, true_and, and_true, true_implies, false_implies, not_false_eq_true, not_true_eq_false, mm_i10, eq_self, en, vn, mm_3, e1, v1, pn, nI_1, mm_upd_nD]
    exact br_t (nI_le (Nat.le_refl _) (by omega)) (h _ _ (sc_done hc hC) (sc_done hq hK))
  | succ d ih =>
    intro m c q hm hc hq
    have em : (nI m).toNatClampNeg = m := nI_clamp (by omega)
    have vm : vp_in (nI m) 12 := vp_in_nI (by omega) (by omega)
    have tm := (hE.2 m (by omega)).1
    have et := nI_eq (a := ev m) (b := ev n) (by omega) (by omega)
    rw [wX_setClocks_37]
    refine br_f (nI_ge (by omega) (by omega)) (And.intro vm (And.intro vn ?_))
    simp only [mm_nDa, en, em, et]
    have hJ : ∀ c' q', sc_I false kd nm ev ck c' n (m + 1) → sc_I true kd nm ev kc q' n (m + 1) → wX_setClocks_37 post (nI n) (d + 1) (nI (m + 1)) fc ff fo fd (mm_nD z) kd nm bg (mm_nD D) R V H (mm_nD ev) (mm_nD eo) (mm_nD eh) ol (mm_nD c') (mm_nD q') (mm_nD ep) (mm_nD te) cu fg si tb pk :=
      fun c' q' a b => ih (m + 1) c' q' (by omega) a b
    exact br_c (fun a => xw_sc62 hE hC hK (by omega) (Or.inl ⟨rfl, a⟩) hc hq hJ) (fun a => xw_sc62 hE hC hK (by omega) (Or.inr ⟨rfl, a⟩) hc hq hJ)
/-- the new row is cleared, then joined -/
theorem xw_sc2 {post : SX → Prop} (hE : rl_E ev eo ep te (n + 1)) (hC : ev_C false kd nm ev n ck) (hK : ev_C true kd nm ev n kc)
    (h : ∀ c q, ev_C false kd nm ev (n + 1) c → ev_C true kd nm ev (n + 1) q → post (fc, ff, fo, fd, mm_nD z, kd, nm, bg, mm_nD D, R, V, H, mm_nD ev, mm_nD eo, mm_nD eh, ol, mm_nD c, mm_nD q, mm_nD ep, mm_nD te, cu, fg, si, tb, pk)) :
    ∀ d m (c q : Nat → Nat), m + d = 3 → (∀ k, k < 3 * n → c k = ck k) → (∀ k, k < 3 * n → q k = kc k) → (∀ t, t < m → c (3 * n + t) = 0 ∧ q (3 * n + t) = 0) →
      wX_setClocks_2 post (nI n) fc ff fo fd (d + 1) (nI m) (mm_nD z) kd nm bg (mm_nD D) R V H (mm_nD ev) (mm_nD eo) (mm_nD eh) ol (mm_nD c) (mm_nD q) (mm_nD ep) (mm_nD te) cu fg si tb pk := by
  have h8 := hE.1
  intro d
  induction d with
  | zero =>
    intro m c q hm hc hq h0
    have : m = 3 := by omega
    subst this
    refine br_t (show (3 : Int32) ≤ nI 3 from by decide) ⟨n + 1, ?_⟩
    have := xw_sc37 (post := post) (fc := fc) (ff := ff) (fo := fo) (fd := fd) (z := z) (D := D) (bg := bg) (R := R) (V := V) (H := H) (eh := eh) (ol := ol) (cu := cu) (fg := fg) (si := si) (tb := tb) (pk := pk) hE hC hK h n 0 c q (by omega)
      ⟨hc, fun t ht p => by rw [(h0 t ht).1]; exact ⟨fun a => absurd a (Nat.not_lt_zero _), fun ⟨i, a, _⟩ => absurd a (Nat.not_lt_zero _)⟩⟩
      ⟨hq, fun t ht p => by rw [(h0 t ht).2]; exact ⟨fun a => absurd a (Nat.not_lt_zero _), fun ⟨i, a, _⟩ => absurd a (Nat.not_lt_zero _)⟩⟩
    exact this
  | succ d ih =>
    intro m c q hm hc hq h0
    have e1 : (nI (3 * n + m)).toNatClampNeg = 3 * n + m := nI_clamp (by omega)
    have v1 : vp_in (nI (3 * n + m)) 36 := vp_in_nI (by omega) (by omega)
    have ez : ∀ f : Nat → Nat, upd (mm_nD f) (3 * n + m) 0 = mm_nD (mm_un f (3 * n + m) 0) := fun f => mm_upd_nD f _ 0
    rw [wX_setClocks_2]
    simp only [forall_eq, mm_nDa, true_and, and_true, true_implies, false_implies, not_false_eq_true, not_true_eq_false, mm_i10, eq_self, mm_3, e1, v1, nI_1, ez]
    refine br_f (nI_ge (b := 3) (by omega) (by decide)) ?_
    refine ih (m + 1) _ _ (by omega) (fun k hk => by rw [mm_ud (by omega)]; exact hc k hk) (fun k hk => by rw [mm_ud (by omega)]; exact hq k hk) (fun t ht => ?_)
    by_cases e : t = m
    · subst e; exact ⟨mm_us _ _ _, mm_us _ _ _⟩
    · rw [mm_ud (by omega), mm_ud (by omega)]; exact h0 t (by omega)
theorem xw_setClocks {post : SX → Prop} (hE : rl_E ev eo ep te (n + 1)) (hC : ev_C false kd nm ev n ck) (hK : ev_C true kd nm ev n kc)
    (h : ∀ c q, ev_C false kd nm ev (n + 1) c → ev_C true kd nm ev (n + 1) q → post (fc, ff, fo, fd, mm_nD z, kd, nm, bg, mm_nD D, R, V, H, mm_nD ev, mm_nD eo, mm_nD eh, ol, mm_nD c, mm_nD q, mm_nD ep, mm_nD te, cu, fg, si, tb, pk)) : wpX_setClocks post (fc, ff, fo, fd, mm_nD z, kd, nm, bg, mm_nD D, R, V, H, mm_nD ev, mm_nD eo, mm_nD eh, ol, mm_nD ck, mm_nD kc, mm_nD ep, mm_nD te, cu, fg, si, tb, pk) (nI n) :=
  ⟨4, xw_sc2 hE hC hK h 3 0 ck kc rfl (fun _ _ => rfl) (fun _ _ => rfl) (fun t ht => absurd ht (Nat.not_lt_zero _))⟩
end
end
section
/-! Y: the small methods -/
section
variable {post : Int32 → Prop} {u : SY}
theorem yw_in1 {t h : Nat} (hh : h < 2 ^ 31) (ht : t ≤ h) (hp : post 1) : wpY_isIn post u (nI t) (nI h) := by
  obtain ⟨a1, a2, a3, a4, a5, a6, a7, a8, a9, a10, a11, a12, a13, a14, a15, a16, a17, a18⟩ := u
  exact br_f (nI_pos (by omega)) (br_f (nI_nlt ht hh) hp)
theorem yw_in0 {p : Int32} {h : Nat} (hh : h < 2 ^ 30) (hp : p < 0 ∨ nI (h + 1) ≤ p) (h0 : post 0) : wpY_isIn post u p (nI h) := by
  obtain ⟨a1, a2, a3, a4, a5, a6, a7, a8, a9, a10, a11, a12, a13, a14, a15, a16, a17, a18⟩ := u
  refine br_c (fun _ => h0) (fun z => br_t ?_ h0)
  have a := hp.resolve_left z
  rw [Int32.le_iff_toInt_le, nI_toInt (by omega)] at a
  rw [Int32.lt_iff_toInt_lt, nI_toInt (by omega)]
  omega
end
theorem mm_and1 {x : Int32} (h : x = 0 ∨ x = 1) : x &&& 1 = x := by
  rcases h with rfl | rfl <;> decide
section
variable {z D yd : Nat → Nat} {kd nm bg R V H yo rl sm kp tr yf : Nat → Int32} {n : Nat} {gc gf gd : Int32}
theorem yw_isEnabled {post : Int32 → Prop} {t : Nat} (ht : t < 3) (hP : mm_P z kd nm) (hd : D t ≤ z t)
    (h1 : mm_en z kd nm t (V, R, H, D) = true → post 1) (h0 : mm_en z kd nm t (V, R, H, D) = false → post 0) : wpY_isEnabled post (gc, gf, gd, kd, nm, mm_nD z, bg, V, R, H, mm_nD D, mm_nD yd, yo, rl, sm, kp, tr, yf) (nI t) := by
  have ec : (nI t).toNatClampNeg = t := nI_clamp (by omega)
  have hi3 : vp_in (nI t) 3 := vp_in_nI ht (by omega)
  have hz := hP.1 t ht
  have eq := nI_eq (a := D t) (b := z t) (by omega) (by omega)
  by_cases e : D t = z t
  · have hf : mm_en z kd nm t (V, R, H, D) = false := Bool.eq_false_iff.mpr fun q => (mm_en_iff.mp q).1 e
    simp only [wpY_isEnabled, forall_eq, mm_nDa, ec, hi3, true_and, eq]
    exact br_t e (h0 hf)
  · have hi12 : vp_in (nI (4 * t + D t)) 12 := vp_in_nI (by omega) (by omega)
    have ec2 : (nI (4 * t + D t)).toNatClampNeg = 4 * t + D t := nI_clamp (by omega)
    simp only [wpY_isEnabled, wY_isEnabled_72, forall_eq, mm_nDa, ec, hi3, true_and, eq, mm_4, hi12, ec2]
    refine br_f e ?_
    rcases hP.2.2 t (D t) ht (by omega) with ⟨hk, hx⟩ | ⟨hk, hx⟩ | hk | ⟨hk, hx⟩ | ⟨hk, hx⟩
    · exact br_t (by rw [hk]; decide) (h1 (mm_en_iff.mpr ⟨e, fun q => absurd (hk.symm.trans q) (by decide), fun q => absurd (hk.symm.trans q) (by decide)⟩))
    · exact br_t (by rw [hk]; decide) (h1 (mm_en_iff.mpr ⟨e, fun q => absurd (hk.symm.trans q) (by decide), fun q => absurd (hk.symm.trans q) (by decide)⟩))
    · exact br_t (by rw [hk]; decide) (h1 (mm_en_iff.mpr ⟨e, fun q => absurd (hk.symm.trans q) (by decide), fun q => absurd (hk.symm.trans q) (by decide)⟩))
    · rw [mm_and1 hx]
      exact br_f (by rw [hk]; decide) ⟨mm_in2 hx, br_t hk (br_c (fun hh => h1 (mm_en_iff.mpr ⟨e, fun _ => hh, fun q => absurd (hk.symm.trans q) (by decide)⟩)) (fun hh => h0 (Bool.eq_false_iff.mpr fun q => hh ((mm_en_iff.mp q).2.1 hk))))⟩
    · rw [mm_and1 hx]
      exact br_f (by rw [hk]; decide) ⟨mm_in2 hx, br_f (by rw [hk]; decide) (br_c (fun hh => h1 (mm_en_iff.mpr ⟨e, fun q => absurd (hk.symm.trans q) (by decide), fun _ => hh⟩)) (fun hh => h0 (Bool.eq_false_iff.mpr fun q => hh ((mm_en_iff.mp q).2.2 hk))))⟩
theorem yw_go {post : SY → Prop} {t : Nat} (ht : t < 3) (hn : n < 8) (hP : mm_P z kd nm) (hd : D t < z t)
    (h : ∀ V' R' H' D' yo', mm_stp kd nm t (V, R, H, D) = (V', R', H', D') → (∀ i, i ≠ n → yo' i = yo i) → (kd (4 * t + D t) ≠ 3 → kd (4 * t + D t) ≠ 4 → yo' n = mm_old kd nm t (V, R, H, D)) →
      post (nI (n + 1), gf, gd, kd, nm, mm_nD z, bg, V', R', H', mm_nD D', mm_nD (mm_un yd n (4 * t + D t)), yo', rl, sm, kp, tr, yf)) : wpY_go post (nI n, gf, gd, kd, nm, mm_nD z, bg, V, R, H, mm_nD D, mm_nD yd, yo, rl, sm, kp, tr, yf) (nI t) := by
  have ec : (nI t).toNatClampNeg = t := nI_clamp (by omega)
  have en : (nI n).toNatClampNeg = n := nI_clamp (by omega)
  have hi3 : vp_in (nI t) 3 := vp_in_nI ht (by omega)
  have hi8 : vp_in (nI n) 8 := vp_in_nI hn (by omega)
  have hz := hP.1 t ht
  have hi12 : vp_in (nI (4 * t + D t)) 12 := vp_in_nI (by omega) (by omega)
  have ec2 : (nI (4 * t + D t)).toNatClampNeg = 4 * t + D t := nI_clamp (by omega)
  simp only [wpY_go, wY_go_45, wY_go_88, wY_go_145, wY_go_146, forall_eq, mm_nDa, ec, en, hi3, hi8, true_and, mm_4, hi12, ec2, nI_1, mm_upd_nD]
  rcases hP.2.2 t (D t) ht hd with ⟨hk, hx⟩ | ⟨hk, hx⟩ | hk | ⟨hk, hx⟩ | ⟨hk, hx⟩
  · have eo : mm_old kd nm t (V, R, H, D) = R t := if_neg (fun q => absurd (hk.symm.trans q) (by decide))
    exact br_t hk (br_t hk ⟨mm_in2 hx, h _ _ _ _ _ (mm_stp0 (s := (V, R, H, D)) hk) (fun i hi => pk_un hi) (fun _ _ => by rw [pk_us, eo])⟩)
  · have eo : mm_old kd nm t (V, R, H, D) = V (nm (4 * t + D t)).toNatClampNeg := if_pos hk
    exact br_f (by rw [hk]; decide) (br_f (by rw [hk]; decide) (br_t hk ⟨mm_in2 hx, mm_in2 hx, h _ _ _ _ _ (mm_stp1 (s := (V, R, H, D)) hk) (fun i hi => pk_un hi) (fun _ _ => by rw [pk_us, eo])⟩))
  · have eo : mm_old kd nm t (V, R, H, D) = R t := if_neg (fun q => absurd (hk.symm.trans q) (by decide))
    exact br_f (by rw [hk]; decide) (br_t hk (br_f (by rw [hk]; decide) (h _ _ _ _ _ (mm_stp2 (s := (V, R, H, D)) hk) (fun i hi => pk_un hi) (fun _ _ => by rw [pk_us, eo]))))
  · exact br_f (by rw [hk]; decide) (br_f (by rw [hk]; decide) (br_f (by rw [hk]; decide) (br_t hk ⟨mm_in2 hx, h _ _ _ _ _ (mm_stp3 (s := (V, R, H, D)) hk) (fun i hi => rfl) (fun a _ => absurd hk a)⟩)))
  · exact br_f (by rw [hk]; decide) (br_f (by rw [hk]; decide) (br_f (by rw [hk]; decide) (br_f (by rw [hk]; decide) ⟨mm_in2 hx, h _ _ _ _ _ (mm_stp4 (s := (V, R, H, D)) hk) (fun i hi => rfl) (fun _ a => absurd hk a)⟩)))
theorem yw_undo {post : Int32 → SY → Prop} {t : Nat} {V' R' H' : Nat → Int32} {D' : Nat → Nat} (ht : t < 3) (hn : n < 8) (hP : mm_P z kd nm) (hd : D t < z t) (he : mm_en z kd nm t (V, R, H, D) = true)
    (hs : mm_stp kd nm t (V, R, H, D) = (V', R', H', D')) (hy : yd n = 4 * t + D t) (ho : kd (4 * t + D t) ≠ 3 → kd (4 * t + D t) ≠ 4 → yo n = mm_old kd nm t (V, R, H, D)) (h : post (nI t) (nI n, gf, gd, kd, nm, mm_nD z, bg, V, R, H, mm_nD D, mm_nD yd, yo, rl, sm, kp, tr, yf)) :
    wpY_undo post (nI (n + 1), gf, gd, kd, nm, mm_nD z, bg, V', R', H', mm_nD D', mm_nD yd, yo, rl, sm, kp, tr, yf) := by
  have ec : (nI t).toNatClampNeg = t := nI_clamp (by omega)
  have en : (nI n).toNatClampNeg = n := nI_clamp (by omega)
  have hi3 : vp_in (nI t) 3 := vp_in_nI ht (by omega)
  have hi8 : vp_in (nI n) 8 := vp_in_nI hn (by omega)
  have hz := hP.1 t ht
  have hi12 : vp_in (nI (4 * t + D t)) 12 := vp_in_nI (by omega) (by omega)
  have ec2 : (nI (4 * t + D t)).toNatClampNeg = 4 * t + D t := nI_clamp (by omega)
  have hE := mm_en_iff.mp he
  have h40 : ((4 : Int32) = 0) = False := by decide
  have ed : nI (4 * t + D t) / 4 = nI t := by
    rw [show (4 : Int32) = nI 4 from rfl, pk_div (by omega) (by omega) (by omega)]
    exact congrArg nI (by omega)
  have eD : D' = mm_un D t (D t + 1) := by
    have := mm_stpD (kd := kd) (nm := nm) (t := t) (s := (V, R, H, D))
    rw [hs] at this
    exact this
  subst eD
  simp only [wpY_undo, wY_undo_48, wY_undo_106, wY_undo_107, forall_eq, mm_nDa, true_and, and_true, true_implies, false_implies, not_false_eq_true, not_true_eq_false, mm_i10, eq_self, h40, nI_pred, en, hi8, hy, ed, hi12, ec2, ec, hi3, mm_us, mm_upd_nD, mm_un2, mm_un_self]
  rcases hP.2.2 t (D t) ht hd with ⟨hk, hx⟩ | ⟨hk, hx⟩ | hk | ⟨hk, hx⟩ | ⟨hk, hx⟩
  · have eo : mm_old kd nm t (V, R, H, D) = R t := if_neg (fun q => absurd (hk.symm.trans q) (by decide))
    rw [mm_stp0 (s := (V, R, H, D)) hk] at hs
    cases hs
    refine br_t hk ?_
    dsimp only
    rw [ho (by rw [hk]; decide) (by rw [hk]; decide), eo, mm_upd2, mm_upd_self]
    exact h
  · have eo : mm_old kd nm t (V, R, H, D) = V (nm (4 * t + D t)).toNatClampNeg := if_pos hk
    rw [mm_stp1 (s := (V, R, H, D)) hk] at hs
    cases hs
    refine br_f (by rw [hk]; decide) (br_f (by rw [hk]; decide) (br_t hk ⟨mm_in2 hx, ?_⟩))
    dsimp only
    rw [ho (by rw [hk]; decide) (by rw [hk]; decide), eo, mm_upd2, mm_upd_self]
    exact h
  · have eo : mm_old kd nm t (V, R, H, D) = R t := if_neg (fun q => absurd (hk.symm.trans q) (by decide))
    rw [mm_stp2 (s := (V, R, H, D)) hk] at hs
    cases hs
    refine br_f (by rw [hk]; decide) (br_t hk ?_)
    dsimp only
    rw [ho (by rw [hk]; decide) (by rw [hk]; decide), eo, mm_upd2, mm_upd_self]
    exact h
  · rw [mm_stp3 (s := (V, R, H, D)) hk] at hs
    cases hs
    refine br_f (by rw [hk]; decide) (br_f (by rw [hk]; decide) (br_f (by rw [hk]; decide) (br_t hk ⟨mm_in2 hx, ?_⟩)))
    dsimp only
    rw [mm_upd2, mm_upd_id (hE.2.1 hk)]
    exact h
  · rw [mm_stp4 (s := (V, R, H, D)) hk] at hs
    cases hs
    refine br_f (by rw [hk]; decide) (br_f (by rw [hk]; decide) (br_f (by rw [hk]; decide) (br_f (by rw [hk]; decide) ⟨mm_in2 hx, ?_⟩)))
    dsimp only
    rw [mm_upd2, mm_upd_id (hE.2.2 hk)]
    exact h
/-- a kind of an operation -/
theorem mm_kc {k x : Int32} (h : mm_K k x) : k = 0 ∨ k = 1 ∨ k = 2 ∨ k = 3 ∨ k = 4 := by
  rcases h with ⟨h, _⟩ | ⟨h, _⟩ | h | ⟨h, _⟩ | ⟨h, _⟩
  · exact Or.inl h
  · exact Or.inr (Or.inl h)
  · exact Or.inr (Or.inr (Or.inl h))
  · exact Or.inr (Or.inr (Or.inr (Or.inl h)))
  · exact Or.inr (Or.inr (Or.inr (Or.inr h)))
end
end
section
/-! Y: conflicts and the closure -/
theorem mm_21 (x : Int32) : ((2 : Int32) ≤ x) = (1 < x) := by
  have a : (2 : Int32).toInt = 2 := by decide
  have b : (1 : Int32).toInt = 1 := by decide
  refine propext ?_
  rw [Int32.le_iff_toInt_le, Int32.lt_iff_toInt_lt, a, b]
  omega
theorem mm_23 (x : Int32) : (x ≤ (2 : Int32)) = (x < 3) := by
  have a : (2 : Int32).toInt = 2 := by decide
  have b : (3 : Int32).toInt = 3 := by decide
  refine propext ?_
  rw [Int32.le_iff_toInt_le, Int32.lt_iff_toInt_lt, a, b]
  omega
theorem mm_i40 : ((4 : Int32) = 0) = False := by decide
theorem mm_i80 : ((8 : Int32) = 0) = False := by decide
/-- what Y's event array holds of the first N events -/
def rl_G (kd nm : Nat → Int32) (ev yd : Nat → Nat) (N : Nat) : Prop :=
  N ≤ 8 ∧ ∀ i, i < N → ev i < 3 ∧ yd i = ev_o ev i ∧ ev_c ev (ev i) i < 4 ∧ mm_K (kd (ev_o ev i)) (nm (ev_o ev i))
theorem rl_G12 {kd nm : Nat → Int32} {ev yd : Nat → Nat} {N i : Nat} (hE : rl_G kd nm ev yd N) (hi : i < N) : ev_o ev i < 12 := by
  have a := hE.2 i hi
  unfold ev_o
  omega
theorem rl_Gd {kd nm : Nat → Int32} {ev yd : Nat → Nat} {N i : Nat} (hE : rl_G kd nm ev yd N) (hi : i < N) : nI (ev_o ev i) / 4 = nI (ev i) := by
  have a := hE.2 i hi
  rw [show (4 : Int32) = nI 4 from rfl, pk_div (by unfold ev_o; omega) (by omega) (by omega)]
  exact congrArg nI (by unfold ev_o; omega)
def wa_b (x : Int32) (p : Prop) : Prop := (p ∧ x = 1) ∨ (¬ p ∧ x = 0)
theorem wa_b0 {x : Int32} {p : Prop} (h : wa_b x p) (hx : x = 0) : ¬ p := by
  rcases h with ⟨_, h⟩ | ⟨h, _⟩
  · rw [hx] at h; exact absurd h (by decide)
  · exact h
theorem wa_b1 {x : Int32} {p : Prop} (h : wa_b x p) (hx : ¬ x = 0) : p := by
  rcases h with ⟨h, _⟩ | ⟨_, h⟩
  · exact h
  · exact absurd h hx
theorem wa_n0 : vp_nar .boolean 0 = 0 := rfl
theorem wa_n1 : vp_nar .boolean 1 = 1 := rfl
section
variable {z D yd ev : Nat → Nat} {kd nm bg R V H yo rl sm kp tr yf : Nat → Int32} {n N : Nat} {gc gf gd : Int32}
theorem yw_cf0 {post : Int32 → Prop} {x3 x4 : Int32} (h : post 0) : wY_conflict_74 post x3 x4 0 gc gf gd kd nm (mm_nD z) bg V R H (mm_nD D) (mm_nD yd) yo rl sm kp tr yf := by
  simp only [wY_conflict_74, wY_conflict_102, wY_conflict_98, wY_conflict_103, forall_eq, mm_nDa, true_and, and_true, true_implies, false_implies, not_false_eq_true, not_true_eq_false, mm_i10, eq_self]
  exact br_c (fun _ => h) (fun _ => br_c (fun _ => h) (fun _ => br_c (fun _ => h) (fun _ => br_c (fun _ => h) (fun _ => h))))
theorem yw_cf1 {post : Int32 → Prop} {x3 x4 : Int32} (h1 : ((¬ x3 < 3 ∧ ¬ x4 < 3) ∨ (¬ 1 < x3 ∧ ¬ 1 < x4 ∧ (x3 = 1 ∨ x4 = 1))) → post 1) (h0 : ¬ ((¬ x3 < 3 ∧ ¬ x4 < 3) ∨ (¬ 1 < x3 ∧ ¬ 1 < x4 ∧ (x3 = 1 ∨ x4 = 1))) → post 0) :
    wY_conflict_74 post x3 x4 1 gc gf gd kd nm (mm_nD z) bg V R H (mm_nD D) (mm_nD yd) yo rl sm kp tr yf := by
  have h102 : ¬ (¬ 1 < x3 ∧ ¬ 1 < x4 ∧ (x3 = 1 ∨ x4 = 1)) → ((x3 < 3 → post 0) ∧ (¬ x3 < 3 → ((x4 < 3 → post 0) ∧ (¬ x4 < 3 → post 1)))) := fun hn =>
    br_c (fun a => h0 fun q => q.elim (fun r => r.1 a) hn) (fun a => br_c (fun b => h0 fun q => q.elim (fun r => r.2 b) hn) (fun b => h1 (Or.inl ⟨a, b⟩)))
  simp only [wY_conflict_74, wY_conflict_102, wY_conflict_98, wY_conflict_103, forall_eq, mm_nDa, true_and, and_true, true_implies, false_implies, not_false_eq_true, not_true_eq_false, mm_i10, eq_self, mm_21, mm_23]
  exact br_c (fun a => h102 fun q => q.1 a) (fun a => br_c (fun b => h102 fun q => q.2.1 b) (fun b => br_c (fun c => h1 (Or.inr ⟨a, b, Or.inl c⟩)) (fun c => br_c (fun d => h1 (Or.inr ⟨a, b, Or.inr d⟩)) (fun d => h102 fun q => q.2.2.elim c d))))
theorem yw_conflict {post : Int32 → Prop} {i j : Nat} (hE : rl_G kd nm ev yd N) (hi : i < N) (hj : j < N) (h1 : ev_cf kd nm ev i j → post 1) (h0 : ¬ ev_cf kd nm ev i j → post 0) : wpY_conflict post (gc, gf, gd, kd, nm, mm_nD z, bg, V, R, H, mm_nD D, mm_nD yd, yo, rl, sm, kp, tr, yf) (nI i) (nI j) := by
  have h8 := hE.1
  have ei : (nI i).toNatClampNeg = i := nI_clamp (by omega)
  have ej : (nI j).toNatClampNeg = j := nI_clamp (by omega)
  have vi : vp_in (nI i) 8 := vp_in_nI (by omega) (by omega)
  have vj : vp_in (nI j) 8 := vp_in_nI (by omega) (by omega)
  have oi := (hE.2 i hi).2.1
  have oj := (hE.2 j hj).2.1
  have li := rl_G12 hE hi
  have lj := rl_G12 hE hj
  have ti := (hE.2 i hi).1
  have tj := (hE.2 j hj).1
  have ea : (nI (ev_o ev i)).toNatClampNeg = ev_o ev i := nI_clamp (by omega)
  have eb : (nI (ev_o ev j)).toNatClampNeg = ev_o ev j := nI_clamp (by omega)
  have va : vp_in (nI (ev_o ev i)) 12 := vp_in_nI li (by omega)
  have vb : vp_in (nI (ev_o ev j)) 12 := vp_in_nI lj (by omega)
  have et := nI_eq (a := ev i) (b := ev j) (by omega) (by omega)
  have di := rl_Gd hE hi
  have dj := rl_Gd hE hj
  simp only [wpY_conflict, wY_conflict_73, forall_eq, mm_nDa, true_and, and_true, true_implies, false_implies, not_false_eq_true, not_true_eq_false, mm_i10, eq_self, mm_i40, ei, ej, vi, vj, oi, oj, ea, eb, va, vb, di, dj, et]
  exact br_c (fun a => br_c (fun b => yw_cf0 (h0 fun q => q.1 b)) (fun b => yw_cf1 (fun c => h1 ⟨b, a, c⟩) (fun c => h0 fun q => c q.2.2))) (fun a => yw_cf0 (h0 fun q => a q.2.1))
theorem yw_isOfLock {post : Int32 → Prop} {i : Nat} (hE : rl_G kd nm ev yd N) (hi : i < N) (h1 : ¬ kd (ev_o ev i) < 3 → post 1) (h0 : kd (ev_o ev i) < 3 → post 0) : wpY_isOfLock post (gc, gf, gd, kd, nm, mm_nD z, bg, V, R, H, mm_nD D, mm_nD yd, yo, rl, sm, kp, tr, yf) (nI i) := by
  have h8 := hE.1
  have ei : (nI i).toNatClampNeg = i := nI_clamp (by omega)
  have vi : vp_in (nI i) 8 := vp_in_nI (by omega) (by omega)
  have oi := (hE.2 i hi).2.1
  have li := rl_G12 hE hi
  have ea : (nI (ev_o ev i)).toNatClampNeg = ev_o ev i := nI_clamp (by omega)
  have va : vp_in (nI (ev_o ev i)) 12 := vp_in_nI li (by omega)
  simp only [wpY_isOfLock, forall_eq, mm_nDa, true_and, and_true, true_implies, false_implies, not_false_eq_true, not_true_eq_false, mm_i10, eq_self, ei, vi, oi, ea, va, mm_23]
  exact br_c h0 h1
/-! the stages -/
def wa_st (E : Nat → Nat → Prop) (rl : Nat → Int32) (k m : Nat) : Prop := ∀ q, q < 64 → (q < m → wa_b (rl q) (wa_W E (k + 1) (q / 8) (q % 8))) ∧ (m ≤ q → wa_b (rl q) (wa_W E k (q / 8) (q % 8)))
theorem wa_st_s {E : Nat → Nat → Prop} {k m : Nat} {v : Int32} (h : wa_st E rl k m) (hv : wa_b v (wa_W E (k + 1) (m / 8) (m % 8))) : wa_st E (upd rl m v) k (m + 1) := by
  intro q hq
  refine ⟨fun hm => ?_, fun hm => ?_⟩
  · by_cases e : q = m
    · subst e; rw [pk_us]; exact hv
    · rw [pk_un e]; exact (h q hq).1 (by omega)
  · rw [pk_un (by omega)]; exact (h q hq).2 (by omega)
theorem wa_st_c {E : Nat → Nat → Prop} {k m i : Nat} (h : wa_st E rl k m) (hk : k < 8) (hi : i < 8) : wa_b (rl (8 * i + k)) (wa_W E k i k) := by
  have a := h (8 * i + k) (by omega)
  rw [show (8 * i + k) / 8 = i from by omega, show (8 * i + k) % 8 = k from by omega, wa_col] at a
  by_cases e : 8 * i + k < m
  · exact a.1 e
  · exact a.2 (by omega)
theorem wa_st_r {E : Nat → Nat → Prop} {k m j : Nat} (h : wa_st E rl k m) (hk : k < 8) (hj : j < 8) : wa_b (rl (8 * k + j)) (wa_W E k k j) := by
  have a := h (8 * k + j) (by omega)
  rw [show (8 * k + j) / 8 = k from by omega, show (8 * k + j) % 8 = j from by omega, wa_row] at a
  by_cases e : 8 * k + j < m
  · exact a.1 e
  · exact a.2 (by omega)
theorem yw_close_184 {post : SY → Prop} {E : Nat → Nat → Prop} {J : Int32 → (Nat → Int32) → (Nat → Int32) → (Nat → Int32) → (Nat → Int32) → (Nat → Int32) → (Nat → Int32) → (Nat → Int32) → (Nat → Int32) → (Nat → Int32) → (Nat → Int32) → (Nat → Int32) → (Nat → Int32) → (Nat → Int32) → (Nat → Int32) → (Nat → Int32) → Prop} {k : Nat} (hk : k < 8)
    (hJ : ∀ rl, wa_st E rl k 64 → J (nI (k + 1)) kd nm (mm_nD z) bg V R H (mm_nD D) (mm_nD yd) yo rl sm kp tr yf) : ∀ d m rl, m + d = 64 → wa_st E rl k m → wY_close_184 post J (nI k) gc gf gd (d + 1) (nI m) kd nm (mm_nD z) bg V R H (mm_nD D) (mm_nD yd) yo rl sm kp tr yf := by
  intro d
  induction d with
  | zero =>
    intro m rl hm h
    have : m = 64 := by omega
    subst this
    exact br_t (show (64 : Int32) ≤ nI 64 from by decide) (nm_r (nI_1 k) (hJ rl h))
  | succ d ih =>
    intro m rl hm h
    have hs : ∀ v, wa_b v (wa_W E (k + 1) (m / 8) (m % 8)) → wY_close_184 post J (nI k) gc gf gd (d + 1) (nI (m + 1)) kd nm (mm_nD z) bg V R H (mm_nD D) (mm_nD yd) yo (upd rl m v) sm kp tr yf :=
      fun v hv => ih (m + 1) _ (by omega) (wa_st_s h hv)
    have em : (nI m).toNatClampNeg = m := nI_clamp (by omega)
    have vm : vp_in (nI m) 64 := vp_in_nI (by omega) (by omega)
    have er : nI m - nI m / 8 * 8 = nI (m % 8) := pk_rem (d := 8) (by omega) (by omega) (by omega)
    have e1 : nI m - nI (m % 8) + nI k = nI (8 * (m / 8) + k) := by
      rw [pk_sub (by omega), nI_add]; exact congrArg nI (by omega)
    have e2 : (8 : Int32) * nI k + nI (m % 8) = nI (8 * k + m % 8) := by
      rw [show (8 : Int32) = nI 8 from rfl, pk_mul, nI_add]
    have c1 : (nI (8 * (m / 8) + k)).toNatClampNeg = 8 * (m / 8) + k := nI_clamp (by omega)
    have c2 : (nI (8 * k + m % 8)).toNatClampNeg = 8 * k + m % 8 := nI_clamp (by omega)
    have v1 : vp_in (nI (8 * (m / 8) + k)) 64 := vp_in_nI (by omega) (by omega)
    have v2 : vp_in (nI (8 * k + m % 8)) 64 := vp_in_nI (by omega) (by omega)
    have b0 := (h m (by omega)).2 (Nat.le_refl _)
    have b1 := wa_st_c (i := m / 8) h hk (by omega)
    have b2 := wa_st_r (j := m % 8) h hk (by omega)
    rw [wY_close_184]
    simp only [forall_eq, mm_nDa, true_and, and_true, true_implies, false_implies, not_false_eq_true, not_true_eq_false, mm_i10, eq_self, mm_i80, em, vm, er, e1, e2, c1, c2, v1, v2, nI_1, wa_n0, wa_n1]
    refine br_f (nI_ge (b := 64) (by omega) (by decide)) (br_c (fun q => br_c (fun r => ?_) (fun r => br_c (fun s => ?_) (fun s => ?_))) (fun q => ?_))
    · exact hs 0 (Or.inr ⟨fun w => w.elim (wa_b0 b0 q) (fun w => wa_b0 b1 r w.1), rfl⟩)
    · exact hs 0 (Or.inr ⟨fun w => w.elim (wa_b0 b0 q) (fun w => wa_b0 b2 s w.2), rfl⟩)
    · exact hs 1 (Or.inl ⟨Or.inr ⟨wa_b1 b1 r, wa_b1 b2 s⟩, rfl⟩)
    · exact hs 1 (Or.inl ⟨Or.inl (wa_b1 b0 q), rfl⟩)
theorem yw_close_176 {post : SY → Prop} {E : Nat → Nat → Prop} (h : ∀ rl, (∀ i j, i < 8 → j < 8 → wa_b (rl (8 * i + j)) (wa_W E 8 i j)) → post (gc, gf, gd, kd, nm, mm_nD z, bg, V, R, H, mm_nD D, mm_nD yd, yo, rl, sm, kp, tr, yf)) :
    ∀ d k rl, k + d = 8 → wa_st E rl k 0 → wY_close_176 post gc gf gd (d + 1) (nI k) kd nm (mm_nD z) bg V R H (mm_nD D) (mm_nD yd) yo rl sm kp tr yf := by
  intro d
  induction d with
  | zero =>
    intro k rl hk hs
    have : k = 8 := by omega
    subst this
    refine br_t (show (8 : Int32) ≤ nI 8 from by decide) (h rl fun i j hi hj => ?_)
    have a := (hs (8 * i + j) (by omega)).2 (Nat.zero_le _)
    rw [show (8 * i + j) / 8 = i from by omega, show (8 * i + j) % 8 = j from by omega] at a
    exact a
  | succ d ih =>
    intro k rl hk hs
    rw [wY_close_176]
    refine br_f (nI_ge (b := 8) (by omega) (by decide)) ⟨65, ?_⟩
    refine yw_close_184 (by omega) (fun rl' hr => ?_) 64 0 rl (by omega) hs
    exact ih (k + 1) rl' (by omega) (fun q hq => ⟨fun a => absurd a (Nat.not_lt_zero _), fun _ => (hr q hq).1 hq⟩)
/-! the edges -/
section
variable {post : SY → Prop} {b : Bool} {J : Int32 → (Nat → Int32) → (Nat → Int32) → (Nat → Int32) → (Nat → Int32) → (Nat → Int32) → (Nat → Int32) → (Nat → Int32) → (Nat → Int32) → (Nat → Int32) → (Nat → Int32) → (Nat → Int32) → (Nat → Int32) → (Nat → Int32) → (Nat → Int32) → (Nat → Int32) → Prop} {i j m : Nat}
theorem yw_c108 {z0 x1 : Int32} (hE : rl_G kd nm ev yd n) (hm : m < 64) (hij : i < j) (hj : j < n) (hx : (x1 = 0 ∧ b = false) ∨ (x1 = 1 ∧ b = true)) (hz : (z0 = 1 ∧ ev_ho kd nm ev i j) ∨ (z0 = 0 ∧ ¬ ev_ho kd nm ev i j))
    (hJ : ∀ v, wa_b v (ev_E b kd nm ev i j ∧ j < n) → J (nI (m + 1)) kd nm (mm_nD z) bg V R H (mm_nD D) (mm_nD yd) yo (upd rl m v) sm kp tr yf) : wY_close_108 post J x1 (nI m) (nI i) (nI j) 1 z0 gc gf gd kd nm (mm_nD z) bg V R H (mm_nD D) (mm_nD yd) yo rl sm kp tr yf := by
  have h8 := hE.1
  have em : (nI m).toNatClampNeg = m := nI_clamp (by omega)
  have vm : vp_in (nI m) 64 := vp_in_nI (by omega) (by omega)
  have ei : (nI i).toNatClampNeg = i := nI_clamp (by omega)
  have ej : (nI j).toNatClampNeg = j := nI_clamp (by omega)
  have vi : vp_in (nI i) 8 := vp_in_nI (by omega) (by omega)
  have vj : vp_in (nI j) 8 := vp_in_nI (by omega) (by omega)
  have oi := (hE.2 i (by omega)).2.1
  have oj := (hE.2 j hj).2.1
  have ti := (hE.2 i (by omega)).1
  have tj := (hE.2 j hj).1
  have di := rl_Gd hE (i := i) (by omega)
  have dj := rl_Gd hE hj
  have et := nI_eq (a := ev i) (b := ev j) (by omega) (by omega)
  simp only [wY_close_108, forall_eq, mm_nDa, true_and, and_true, true_implies, false_implies, not_false_eq_true, not_true_eq_false, mm_i10, eq_self, mm_i40, em, vm, ei, ej, vi, vj, oi, oj, di, dj, et, nI_1, wa_n0, wa_n1]
  refine br_c (fun a => hJ 1 (Or.inl ⟨⟨⟨hij, Or.inl a⟩, hj⟩, rfl⟩)) (fun a => ?_)
  rcases hx with ⟨rfl, rfl⟩ | ⟨rfl, rfl⟩
  · refine br_t rfl (yw_conflict hE (by omega) hj (fun c => ?_) (fun c => ?_))
    · exact br_f (by decide) (hJ 1 (Or.inl ⟨⟨⟨hij, Or.inr c⟩, hj⟩, rfl⟩))
    · exact br_t rfl (hJ 0 (Or.inr ⟨fun w => w.1.2.elim a c, rfl⟩))
  · refine br_f (by decide) ?_
    rcases hz with ⟨rfl, c⟩ | ⟨rfl, c⟩
    · exact br_f (by decide) (hJ 1 (Or.inl ⟨⟨⟨hij, Or.inr c⟩, hj⟩, rfl⟩))
    · exact br_t rfl (hJ 0 (Or.inr ⟨fun w => w.1.2.elim a c, rfl⟩))
theorem yw_c39 {x1 : Int32} (hE : rl_G kd nm ev yd n) (hm : m < 64) (hij : i < j) (hj : j < n) (hx : (x1 = 0 ∧ b = false) ∨ (x1 = 1 ∧ b = true))
    (hJ : ∀ v, wa_b v (ev_E b kd nm ev i j ∧ j < n) → J (nI (m + 1)) kd nm (mm_nD z) bg V R H (mm_nD D) (mm_nD yd) yo (upd rl m v) sm kp tr yf) : wY_close_39 post J x1 (nI m) (nI i) (nI j) 1 gc gf gd kd nm (mm_nD z) bg V R H (mm_nD D) (mm_nD yd) yo rl sm kp tr yf := by
  have h8 := hE.1
  have ei : (nI i).toNatClampNeg = i := nI_clamp (by omega)
  have ej : (nI j).toNatClampNeg = j := nI_clamp (by omega)
  have vi : vp_in (nI i) 8 := vp_in_nI (by omega) (by omega)
  have vj : vp_in (nI j) 8 := vp_in_nI (by omega) (by omega)
  have oi := (hE.2 i (by omega)).2.1
  have oj := (hE.2 j hj).2.1
  have li := rl_G12 hE (i := i) (by omega)
  have lj := rl_G12 hE hj
  have ea : (nI (ev_o ev i)).toNatClampNeg = ev_o ev i := nI_clamp (by omega)
  have eb : (nI (ev_o ev j)).toNatClampNeg = ev_o ev j := nI_clamp (by omega)
  have va : vp_in (nI (ev_o ev i)) 12 := vp_in_nI li (by omega)
  have vb : vp_in (nI (ev_o ev j)) 12 := vp_in_nI lj (by omega)
  simp only [wY_close_39, wY_close_107, forall_eq, mm_nDa, true_and, and_true, true_implies, false_implies, not_false_eq_true, not_true_eq_false, mm_i10, eq_self, ei, ej, vi, vj, oi, oj, ea, eb, va, vb]
  exact br_c (fun p => br_c (fun q => br_c (fun r => yw_c108 hE hm hij hj hx (Or.inl ⟨rfl, p, q, r⟩) hJ) (fun r => yw_c108 hE hm hij hj hx (Or.inr ⟨rfl, fun w => r w.2.2⟩) hJ)) (fun q => yw_c108 hE hm hij hj hx (Or.inr ⟨rfl, fun w => q w.2.1⟩) hJ)) (fun p => yw_c108 hE hm hij hj hx (Or.inr ⟨rfl, fun w => p w.1⟩) hJ)
theorem yw_c38 {x1 : Int32} (hm : m < 64) (hn : ¬ (i < j ∧ j < n)) (hJ : ∀ v, wa_b v (ev_E b kd nm ev i j ∧ j < n) → J (nI (m + 1)) kd nm (mm_nD z) bg V R H (mm_nD D) (mm_nD yd) yo (upd rl m v) sm kp tr yf) : wY_close_38 post J x1 (nI m) (nI i) (nI j) gc gf gd kd nm (mm_nD z) bg V R H (mm_nD D) (mm_nD yd) yo rl sm kp tr yf := by
  have em : (nI m).toNatClampNeg = m := nI_clamp (by omega)
  have vm : vp_in (nI m) 64 := vp_in_nI (by omega) (by omega)
  simp only [wY_close_38, wY_close_39, wY_close_107, wY_close_108, forall_eq, mm_nDa, true_and, and_true, true_implies, false_implies, not_false_eq_true, not_true_eq_false, mm_i10, eq_self, em, vm, nI_1, wa_n0]
  exact hJ 0 (Or.inr ⟨fun w => hn ⟨w.1.1, w.2⟩, rfl⟩)
end
theorem yw_close_2 {post : SY → Prop} {b : Bool} {x1 : Int32} (hE : rl_G kd nm ev yd n) (hx : (x1 = 0 ∧ b = false) ∨ (x1 = 1 ∧ b = true)) (h : ∀ rl, (∀ i j, i < 8 → j < 8 → wa_b (rl (8 * i + j)) (ev_T b kd nm ev i j ∧ j < n)) → post (nI n, gf, gd, kd, nm, mm_nD z, bg, V, R, H, mm_nD D, mm_nD yd, yo, rl, sm, kp, tr, yf)) :
    ∀ d m rl, m + d = 64 → (∀ q, q < m → wa_b (rl q) (ev_E b kd nm ev (q / 8) (q % 8) ∧ q % 8 < n)) → wY_close_2 post x1 (nI n) gf gd (d + 1) (nI m) kd nm (mm_nD z) bg V R H (mm_nD D) (mm_nD yd) yo rl sm kp tr yf := by
  have h8 := hE.1
  intro d
  induction d with
  | zero =>
    intro m rl hm hs
    have : m = 64 := by omega
    subst this
    refine br_t (show (64 : Int32) ≤ nI 64 from by decide) ⟨9, ?_⟩
    refine yw_close_176 (E := fun i j => ev_E b kd nm ev i j ∧ j < n) (fun rl' hr => h rl' fun i j hi hj => ?_) 8 0 rl (by omega) (fun q hq => ⟨fun a => absurd a (Nat.not_lt_zero _), fun _ => hs q hq⟩)
    have a := hr i j hi hj
    unfold wa_b at a ⊢
    rw [wa_ev h8] at a
    exact a
  | succ d ih =>
    intro m rl hm hs
    have er : nI m - nI m / 8 * 8 = nI (m % 8) := pk_rem (d := 8) (by omega) (by omega) (by omega)
    have ed : nI m / 8 = nI (m / 8) := pk_div (d := 8) (by omega) (by omega) (by omega)
    have hJ : ∀ v, wa_b v (ev_E b kd nm ev (m / 8) (m % 8) ∧ m % 8 < n) → wY_close_2 post x1 (nI n) gf gd (d + 1) (nI (m + 1)) kd nm (mm_nD z) bg V R H (mm_nD D) (mm_nD yd) yo (upd rl m v) sm kp tr yf := by
      intro v hv
      refine ih (m + 1) _ (by omega) (fun q hq => ?_)
      by_cases e : q = m
      · subst e; rw [pk_us]; exact hv
      · rw [pk_un e]; exact hs q (by omega)
    rw [wY_close_2]
    refine br_f (nI_ge (b := 64) (by omega) (by decide)) (And.intro (by decide) (nm_r ed (And.intro (by decide) (nm_r er ?_))))
    refine pk_le (m % 8) (m / 8) (fun a => yw_c38 (by omega) (fun w => by omega) hJ) (fun a => ?_)
    refine pk_le n (m % 8) (fun c => yw_c38 (by omega) (fun w => by omega) hJ) (fun c => ?_)
    exact yw_c39 hE (by omega) a c hx hJ
theorem yw_close {post : SY → Prop} {b : Bool} {x1 : Int32} (hE : rl_G kd nm ev yd n) (hx : (x1 = 0 ∧ b = false) ∨ (x1 = 1 ∧ b = true)) (h : ∀ rl, (∀ i j, i < 8 → j < 8 → wa_b (rl (8 * i + j)) (ev_T b kd nm ev i j ∧ j < n)) → post (nI n, gf, gd, kd, nm, mm_nD z, bg, V, R, H, mm_nD D, mm_nD yd, yo, rl, sm, kp, tr, yf)) : wpY_close post (nI n, gf, gd, kd, nm, mm_nD z, bg, V, R, H, mm_nD D, mm_nD yd, yo, rl, sm, kp, tr, yf) x1 :=
  ⟨65, yw_close_2 hE hx h 64 0 rl rfl (fun q hq => absurd hq (Nat.not_lt_zero _))⟩
end
end
section
/-! the relation -/
def rl_F (z D ev eo eh ck kc ep te yd : Nat → Nat) (kd nm bg R V H ol yo : Nat → Int32) (n : Nat) : Prop :=
  mm_P z kd nm ∧ ev_Ok z kd nm bg ev n ∧ ev_S kd nm bg ev n = (V, R, H, D) ∧
  (∀ i, i < n → eo i = ev_o ev i ∧ ep i = ev_c ev (ev i) i ∧ te (ev_o ev i) = i ∧ eh i = mm_hv (ev_S kd nm bg ev i).2.2.1 (ev i)) ∧
  (∀ i, i < n → kd (ev_o ev i) ≠ 3 → kd (ev_o ev i) ≠ 4 → ol i = mm_old kd nm (ev i) (ev_S kd nm bg ev i)) ∧
  ev_C false kd nm ev n ck ∧ ev_C true kd nm ev n kc ∧ (∀ i, i < n → yd i = ev_o ev i) ∧
  (∀ i, i < n → kd (ev_o ev i) ≠ 3 → kd (ev_o ev i) ≠ 4 → yo i = mm_old kd nm (ev i) (ev_S kd nm bg ev i))
def i_Rel (k : Nat) (u : SX) (v : SY) : Prop := ∃ (z : Nat → Nat) (D : Nat → Nat) (ev : Nat → Nat) (eo : Nat → Nat) (eh : Nat → Nat) (ck : Nat → Nat) (kc : Nat → Nat) (ep : Nat → Nat) (te : Nat → Nat) (yd : Nat → Nat) (kd : Nat → Int32) (nm : Nat → Int32) (bg : Nat → Int32) (R : Nat → Int32) (V : Nat → Int32) (H : Nat → Int32) (ol : Nat → Int32) (cu : Nat → Int32) (fg : Nat → Int32) (si : Nat → Int32) (tb : Nat → Int32) (pk : Nat → Int32) (yo : Nat → Int32) (rl : Nat → Int32) (sm : Nat → Int32) (kp : Nat → Int32) (tr : Nat → Int32) (yf : Nat → Int32) (n : Nat) (ff : Int32) (fo : Int32) (fd : Int32) (gf : Int32) (gd : Int32), rl_F z D ev eo eh ck kc ep te yd kd nm bg R V H ol yo n ∧ u = (nI n, ff, fo, fd, mm_nD z, kd, nm, bg, mm_nD D, R, V, H, mm_nD ev, mm_nD eo, mm_nD eh, ol, mm_nD ck, mm_nD kc, mm_nD ep, mm_nD te, cu, fg, si, tb, pk) ∧ v = (nI n, gf, gd, kd, nm, mm_nD z, bg, V, R, H, mm_nD D, mm_nD yd, yo, rl, sm, kp, tr, yf)
theorem i_up {k : Nat} {u : SX} {v : SY} (h : i_Rel k u v) : i_Rel (k + 4) u v := h
theorem rl_mk {k : Nat} {z D ev eo eh ck kc ep te yd : Nat → Nat} {kd nm bg R V H ol cu fg si tb pk yo rl sm kp tr yf : Nat → Int32} {n : Nat} {ff fo fd gf gd : Int32} (h : rl_F z D ev eo eh ck kc ep te yd kd nm bg R V H ol yo n) : i_Rel k (nI n, ff, fo, fd, mm_nD z, kd, nm, bg, mm_nD D, R, V, H, mm_nD ev, mm_nD eo, mm_nD eh, ol, mm_nD ck, mm_nD kc, mm_nD ep, mm_nD te, cu, fg, si, tb, pk) (nI n, gf, gd, kd, nm, mm_nD z, bg, V, R, H, mm_nD D, mm_nD yd, yo, rl, sm, kp, tr, yf) :=
  ⟨z, D, ev, eo, eh, ck, kc, ep, te, yd, kd, nm, bg, R, V, H, ol, cu, fg, si, tb, pk, yo, rl, sm, kp, tr, yf, n, ff, fo, fd, gf, gd, h, rfl, rfl⟩
theorem rl_el {P : SX → SY → Prop} {k : Nat} {u : SX} {v : SY} (h : ∀ (z : Nat → Nat) (D : Nat → Nat) (ev : Nat → Nat) (eo : Nat → Nat) (eh : Nat → Nat) (ck : Nat → Nat) (kc : Nat → Nat) (ep : Nat → Nat) (te : Nat → Nat) (yd : Nat → Nat) (kd : Nat → Int32) (nm : Nat → Int32) (bg : Nat → Int32) (R : Nat → Int32) (V : Nat → Int32) (H : Nat → Int32) (ol : Nat → Int32) (cu : Nat → Int32) (fg : Nat → Int32) (si : Nat → Int32) (tb : Nat → Int32) (pk : Nat → Int32) (yo : Nat → Int32) (rl : Nat → Int32) (sm : Nat → Int32) (kp : Nat → Int32) (tr : Nat → Int32) (yf : Nat → Int32) (n : Nat) (ff : Int32) (fo : Int32) (fd : Int32) (gf : Int32) (gd : Int32), rl_F z D ev eo eh ck kc ep te yd kd nm bg R V H ol yo n → P (nI n, ff, fo, fd, mm_nD z, kd, nm, bg, mm_nD D, R, V, H, mm_nD ev, mm_nD eo, mm_nD eh, ol, mm_nD ck, mm_nD kc, mm_nD ep, mm_nD te, cu, fg, si, tb, pk) (nI n, gf, gd, kd, nm, mm_nD z, bg, V, R, H, mm_nD D, mm_nD yd, yo, rl, sm, kp, tr, yf)) (I : i_Rel k u v) : P u v :=
  Exists.elim I fun z I => Exists.elim I fun D I => Exists.elim I fun ev I => Exists.elim I fun eo I => Exists.elim I fun eh I => Exists.elim I fun ck I => Exists.elim I fun kc I => Exists.elim I fun ep I => Exists.elim I fun te I => Exists.elim I fun yd I => Exists.elim I fun kd I => Exists.elim I fun nm I => Exists.elim I fun bg I => Exists.elim I fun R I => Exists.elim I fun V I => Exists.elim I fun H I => Exists.elim I fun ol I => Exists.elim I fun cu I => Exists.elim I fun fg I => Exists.elim I fun si I => Exists.elim I fun tb I => Exists.elim I fun pk I => Exists.elim I fun yo I => Exists.elim I fun rl I => Exists.elim I fun sm I => Exists.elim I fun kp I => Exists.elim I fun tr I => Exists.elim I fun yf I => Exists.elim I fun n I => Exists.elim I fun ff I => Exists.elim I fun fo I => Exists.elim I fun fd I => Exists.elim I fun gf I => Exists.elim I fun gd I => I.elim fun hF I => I.elim fun hu hv => by subst hu; subst hv; exact h z D ev eo eh ck kc ep te yd kd nm bg R V H ol cu fg si tb pk yo rl sm kp tr yf n ff fo fd gf gd hF
section
variable {z D ev eo eh ck kc ep te yd : Nat → Nat} {kd nm bg R V H ol yo : Nat → Int32} {n : Nat}
theorem rl_W (h : rl_F z D ev eo eh ck kc ep te yd kd nm bg R V H ol yo n) : mm_W z kd nm (V, R, H, D) := by
  rw [← h.2.2.1]; exact ev_W h.1 h.2.1 n (Nat.le_refl _)
theorem rl_D (h : rl_F z D ev eo eh ck kc ep te yd kd nm bg R V H ol yo n) : D = fun t => ev_c ev t n := by
  have a := ev_SD (kd := kd) (nm := nm) (bg := bg) (ev := ev) n
  rw [h.2.2.1] at a
  exact a
theorem rl_n8 (h : rl_F z D ev eo eh ck kc ep te yd kd nm bg R V H ol yo n) : n ≤ 8 := ev_n8 h.1 h.2.1
theorem rl_toE (h : rl_F z D ev eo eh ck kc ep te yd kd nm bg R V H ol yo n) : rl_E ev eo ep te n :=
  ⟨rl_n8 h, fun i hi => ⟨(h.2.1.2 i hi).1, (h.2.2.2.1 i hi).1, (h.2.2.2.1 i hi).2.1, (h.2.2.2.1 i hi).2.2.1, ev_p4 h.1 h.2.1 hi⟩⟩
theorem rl_toG (h : rl_F z D ev eo eh ck kc ep te yd kd nm bg R V H ol yo n) : rl_G kd nm ev yd n :=
  ⟨rl_n8 h, fun i hi => ⟨(h.2.1.2 i hi).1, h.2.2.2.2.2.2.2.1 i hi, ev_p4 h.1 h.2.1 hi, ev_K h.1 h.2.1 hi⟩⟩
/-- with no event everything else is free -/
theorem rl_F0 {ev eo eh ck kc ep te yd : Nat → Nat} {ol yo : Nat → Int32} (hP : mm_P z kd nm) (hb : ∀ i, 2 ≤ i → bg i = 0) : rl_F z (fun _ => 0) ev eo eh ck kc ep te yd kd nm bg (fun _ => 0) bg mm_h0 ol yo 0 :=
  ⟨hP, ⟨hb, fun i hi => absurd hi (Nat.not_lt_zero _)⟩, rfl, fun i hi => absurd hi (Nat.not_lt_zero _), fun i hi => absurd hi (Nat.not_lt_zero _), fun i hi => absurd hi (Nat.not_lt_zero _), fun i hi => absurd hi (Nat.not_lt_zero _), fun i hi => absurd hi (Nat.not_lt_zero _), fun i hi => absurd hi (Nat.not_lt_zero _)⟩
/-- with no event the state is the first one -/
theorem rl_S0 (h : rl_F z D ev eo eh ck kc ep te yd kd nm bg R V H ol yo 0) : V = bg ∧ R = (fun _ => 0) ∧ H = mm_h0 ∧ D = fun _ => 0 := by
  have a := h.2.2.1
  rw [ev_S] at a
  cases a
  exact ⟨rfl, rfl, rfl, rfl⟩
end
end
section
/-! X: the methods that change programs and events -/
def pg_G (p0 p1 p2 : Int32) : Prop := (∃ t, t < 3 ∧ p0 = nI t) ∧ (¬ p1 < 0 ∧ p1 ≤ 4) ∧ (p1 = 2 → ¬ p2 < -9 ∧ ¬ 9 < p2) ∧ (¬ p1 = 2 → ∃ m, m < 2 ∧ p2 = nI m)
theorem mm_c2 : (2 : Int32).toNatClampNeg = 2 := by decide
theorem mm_n0 {n : Nat} (h : n < 2 ^ 31) : (nI n ≤ 0) = (n = 0) := by
  refine propext ?_
  rw [show (0 : Int32) = nI 0 from rfl, nI_leI h (by omega)]
  omega
theorem mm_z3 {f : Nat → Int32} (h : ∀ i, 3 ≤ i → f i = 0) : upd (upd (upd f 0 0) 1 0) 2 0 = fun _ => 0 := by
  funext i
  by_cases e2 : i = 2
  · subst e2; rw [pk_us]
  · rw [pk_un e2]
    by_cases e1 : i = 1
    · subst e1; rw [pk_us]
    · rw [pk_un e1]
      by_cases e0 : i = 0
      · subst e0; rw [pk_us]
      · rw [pk_un e0]; exact h i (by omega)
theorem mm_z3n {f : Nat → Nat} (h : ∀ i, 3 ≤ i → f i = 0) : upd (upd (upd (mm_nD f) 0 0) 1 0) 2 0 = mm_nD (fun _ => 0) := by
  rw [mm_z3 (fun i hi => by rw [mm_nDa, h i hi]; rfl)]
  rfl
theorem mm_b2 {f g : Nat → Int32} (h : ∀ i, 2 ≤ i → f i = g i) : upd (upd f 0 (g 0)) 1 (g 1) = g := by
  funext i
  by_cases e1 : i = 1
  · subst e1; rw [pk_us]
  · rw [pk_un e1]
    by_cases e0 : i = 0
    · subst e0; rw [pk_us]
    · rw [pk_un e0]; exact h i (by omega)
theorem mm_h2 {f : Nat → Int32} (h : ∀ i, 2 ≤ i → f i = 0) : upd (upd f 0 (-1)) 1 (-1) = mm_h0 := by
  have a := mm_b2 (f := f) (g := mm_h0) (fun i hi => by rw [h i hi]; unfold mm_h0; rw [pk_un (by omega), pk_un (by omega)])
  exact a
section
variable {z D ev eo eh ck kc ep te : Nat → Nat} {kd nm bg R V H ol cu fg si tb pk : Nat → Int32} {n : Nat} {fc ff fo fd : Int32}
theorem xw_program {post : Int32 → SX → Prop} {p0 p1 p2 : Int32} (hP : mm_P z kd nm) (hn : n ≤ 8)
    (hb : ¬ pg_G p0 p1 p2 → post (-1000000001) (nI n, ff, fo, fd, mm_nD z, kd, nm, bg, mm_nD D, R, V, H, mm_nD ev, mm_nD eo, mm_nD eh, ol, mm_nD ck, mm_nD kc, mm_nD ep, mm_nD te, cu, fg, si, tb, pk)) (hy : 0 < n → pg_G p0 p1 p2 → post (-1000000003) (nI n, ff, fo, fd, mm_nD z, kd, nm, bg, mm_nD D, R, V, H, mm_nD ev, mm_nD eo, mm_nD eh, ol, mm_nD ck, mm_nD kc, mm_nD ep, mm_nD te, cu, fg, si, tb, pk))
    (hf : n = 0 → ∀ t, t < 3 → p0 = nI t → pg_G p0 p1 p2 → (z t = 4 ∨ z 0 + z 1 + z 2 = 8) → post (-1000000002) (nI n, ff, fo, fd, mm_nD z, kd, nm, bg, mm_nD D, R, V, H, mm_nD ev, mm_nD eo, mm_nD eh, ol, mm_nD ck, mm_nD kc, mm_nD ep, mm_nD te, cu, fg, si, tb, pk))
    (ho : n = 0 → ∀ t, t < 3 → p0 = nI t → pg_G p0 p1 p2 → z t < 4 → z 0 + z 1 + z 2 < 8 → post (nI (z t)) (nI n, ff, fo, fd, mm_nD (mm_un z t (z t + 1)), upd kd (4 * t + z t) p1, upd nm (4 * t + z t) p2, bg, mm_nD D, R, V, H, mm_nD ev, mm_nD eo, mm_nD eh, ol, mm_nD ck, mm_nD kc, mm_nD ep, mm_nD te, cu, fg, si, tb, pk)) :
    wpX_program post (nI n, ff, fo, fd, mm_nD z, kd, nm, bg, mm_nD D, R, V, H, mm_nD ev, mm_nD eo, mm_nD eh, ol, mm_nD ck, mm_nD kc, mm_nD ep, mm_nD te, cu, fg, si, tb, pk) p0 p1 p2 := by
  have h17 : ¬ pg_G p0 p1 p2 → wX_program_17 post p0 p1 p2 (nI n) ff fo fd (mm_nD z) kd nm bg (mm_nD D) R V H (mm_nD ev) (mm_nD eo) (mm_nD eh) ol (mm_nD ck) (mm_nD kc) (mm_nD ep) (mm_nD te) cu fg si tb pk := fun h => by
    unfold wX_program_17 wX_program_22
    exact br_f (by decide) (hb h)
  have h62 : pg_G p0 p1 p2 → wX_program_62 post p0 p1 p2 (nI n) ff fo fd (mm_nD z) kd nm bg (mm_nD D) R V H (mm_nD ev) (mm_nD eo) (mm_nD eh) ol (mm_nD ck) (mm_nD kc) (mm_nD ep) (mm_nD te) cu fg si tb pk := fun hG => by
    obtain ⟨t, ht, e⟩ := hG.1
    have ec : (nI t).toNatClampNeg = t := nI_clamp (by omega)
    have hi3 : vp_in (nI t) 3 := vp_in_nI ht (by omega)
    have z0 := hP.1 0 (by omega)
    have z1 := hP.1 1 (by omega)
    have z2 := hP.1 2 (by omega)
    have zs := hP.2.1
    have zt := hP.1 t ht
    have e4 : (nI (z t) = 4) = (z t = 4) := propext (nI_eq (b := 4) (by omega) (by omega))
    have e8 : (nI (z 0 + z 1 + z 2) = 8) = (z 0 + z 1 + z 2 = 8) := propext (nI_eq (b := 8) (by omega) (by omega))
    have hn0 := mm_n0 (n := n) (by omega)
    by_cases q : n = 0
    · by_cases q4 : z t = 4
      · have := hf q t ht e hG (Or.inl q4)
        rw [e]
        simp only [wX_program_62, forall_eq, mm_nDa, true_and, and_true, true_implies, false_implies, not_false_eq_true, not_true_eq_false, mm_i10, eq_self, hn0, ec, hi3, e4]
        exact br_t q (br_t q4 this)
      · by_cases q8 : z 0 + z 1 + z 2 = 8
        · have := hf q t ht e hG (Or.inr q8)
          rw [e]
          simp only [wX_program_62, forall_eq, mm_nDa, true_and, and_true, true_implies, false_implies, not_false_eq_true, not_true_eq_false, mm_i10, eq_self, hn0, ec, hi3, e4, nI_add, e8]
          exact br_t q (br_f q4 (br_t q8 this))
        · have := ho q t ht e hG (by omega) (by omega)
          have v12 : vp_in (nI (4 * t + z t)) 12 := vp_in_nI (by omega) (by omega)
          have c12 : (nI (4 * t + z t)).toNatClampNeg = 4 * t + z t := nI_clamp (by omega)
          rw [e]
          simp only [wX_program_62, forall_eq, mm_nDa, true_and, and_true, true_implies, false_implies, not_false_eq_true, not_true_eq_false, mm_i10, eq_self, hn0, ec, hi3, e4, nI_add, e8, mm_4, v12, c12, nI_1, mm_upd_nD, mm_us, nI_pred]
          exact br_t q (br_f q4 (br_f q8 this))
    · have := hy (by omega) hG
      simp only [wX_program_62, hn0]
      exact br_f q this
  have h46 : (∃ t, t < 3 ∧ p0 = nI t) → (¬ p1 < 0 ∧ p1 ≤ 4) → (p1 = 2 → ¬ p2 < -9 ∧ ¬ 9 < p2) → wX_program_46 post p0 p1 p2 (nI n) ff fo fd (mm_nD z) kd nm bg (mm_nD D) R V H (mm_nD ev) (mm_nD eo) (mm_nD eh) ol (mm_nD ck) (mm_nD kc) (mm_nD ep) (mm_nD te) cu fg si tb pk := fun a b c => by
    unfold wX_program_46
    refine br_c (fun d => h62 ⟨a, b, c, fun f => absurd d f⟩) (fun d => ?_)
    by_cases q : ∃ m, m < 2 ∧ p2 = nI m
    · obtain ⟨m, hm, e⟩ := q
      have := h62 ⟨a, b, c, fun _ => ⟨m, hm, e⟩⟩
      rw [e] at this ⊢
      exact xw_b20 hm (br_t rfl this)
    · refine xw_b21 ?_ (br_f (by decide) (hb fun g => q (g.2.2.2 d)))
      rcases pk_ix p2 (n := 2) (by omega) with a | a | a
      · exact Or.inl a
      · exact Or.inr a
      · exact absurd a q
  have h22 : (∃ t, t < 3 ∧ p0 = nI t) → (¬ p1 < 0 ∧ p1 ≤ 4) → wX_program_22 post p0 p1 p2 0 (nI n) ff fo fd (mm_nD z) kd nm bg (mm_nD D) R V H (mm_nD ev) (mm_nD eo) (mm_nD eh) ol (mm_nD ck) (mm_nD kc) (mm_nD ep) (mm_nD te) cu fg si tb pk := fun a b => by
    unfold wX_program_22
    refine br_t rfl (br_c (fun c => ?_) (fun c => h46 a b (fun d => absurd d c)))
    exact br_c (fun d => hb fun g => (g.2.2.1 c).1 d) (fun d => br_c (fun e => hb fun g => (g.2.2.1 c).2 e) (fun e => h46 a b (fun _ => ⟨d, e⟩)))
  unfold wpX_program
  dsimp only
  rcases pk_ix p0 (n := 3) (by omega) with a | a | ⟨t, ht, e⟩
  · refine xw_bt1 (Or.inl a) (br_f (by decide) (h17 fun g => ?_))
    obtain ⟨t, ht, e⟩ := g.1
    rw [e] at a
    exact nI_pos (by omega) a
  · refine xw_bt1 (Or.inr a) (br_f (by decide) (h17 fun g => ?_))
    obtain ⟨t, ht, e⟩ := g.1
    rw [e] at a
    exact nI_ge ht (by omega) a
  · have k17 := h17
    have k22 := h22
    rw [e] at k17 k22 ⊢
    refine xw_bt0 ht (br_t rfl (br_c (fun b => k17 fun g => g.2.1.1 b) (fun b => br_c (fun c => ?_) (fun c => k17 fun g => c g.2.1.2))))
    exact k22 ⟨t, ht, rfl⟩ ⟨b, c⟩
theorem xw_begin {post : Int32 → SX → Prop} {p0 p1 : Int32} (hn : n ≤ 8)
    (hb : (¬ ∃ m, m < 2 ∧ p0 = nI m) → post (-1000000001) (nI n, ff, fo, fd, mm_nD z, kd, nm, bg, mm_nD D, R, V, H, mm_nD ev, mm_nD eo, mm_nD eh, ol, mm_nD ck, mm_nD kc, mm_nD ep, mm_nD te, cu, fg, si, tb, pk)) (hy : 0 < n → (∃ m, m < 2 ∧ p0 = nI m) → post (-1000000003) (nI n, ff, fo, fd, mm_nD z, kd, nm, bg, mm_nD D, R, V, H, mm_nD ev, mm_nD eo, mm_nD eh, ol, mm_nD ck, mm_nD kc, mm_nD ep, mm_nD te, cu, fg, si, tb, pk))
    (ho : n = 0 → ∀ m, m < 2 → p0 = nI m → post (bg m) (nI n, ff, fo, fd, mm_nD z, kd, nm, upd bg m p1, mm_nD D, R, upd V m p1, H, mm_nD ev, mm_nD eo, mm_nD eh, ol, mm_nD ck, mm_nD kc, mm_nD ep, mm_nD te, cu, fg, si, tb, pk)) : wpX_begin post (nI n, ff, fo, fd, mm_nD z, kd, nm, bg, mm_nD D, R, V, H, mm_nD ev, mm_nD eo, mm_nD eh, ol, mm_nD ck, mm_nD kc, mm_nD ep, mm_nD te, cu, fg, si, tb, pk) p0 p1 := by
  unfold wpX_begin
  dsimp only
  by_cases q : ∃ m, m < 2 ∧ p0 = nI m
  · obtain ⟨m, hm, e⟩ := q
    have ec : (nI m).toNatClampNeg = m := nI_clamp (by omega)
    have hi2 : vp_in (nI m) 2 := vp_in_nI hm (by omega)
    have k1 := hy
    have k2 := ho
    rw [e] at k1 k2 ⊢
    refine xw_b20 hm (br_t rfl ?_)
    simp only [forall_eq, mm_nDa, true_and, and_true, true_implies, false_implies, not_false_eq_true, not_true_eq_false, mm_i10, eq_self, mm_n0 (n := n) (by omega), ec, hi2]
    exact br_c (fun a => k2 a m hm rfl) (fun a => k1 (by omega) ⟨m, hm, rfl⟩)
  · refine xw_b21 ?_ (br_f (by decide) (hb q))
    rcases pk_ix p0 (n := 2) (by omega) with a | a | a
    · exact Or.inl a
    · exact Or.inr a
    · exact absurd a q
theorem xw_unprogram {post : Int32 → SX → Prop} {p0 : Int32} (hP : mm_P z kd nm) (hn : n ≤ 8)
    (hb : (¬ ∃ t, t < 3 ∧ p0 = nI t) → post (-1000000001) (nI n, ff, fo, fd, mm_nD z, kd, nm, bg, mm_nD D, R, V, H, mm_nD ev, mm_nD eo, mm_nD eh, ol, mm_nD ck, mm_nD kc, mm_nD ep, mm_nD te, cu, fg, si, tb, pk)) (hy : 0 < n → (∃ t, t < 3 ∧ p0 = nI t) → post (-1000000003) (nI n, ff, fo, fd, mm_nD z, kd, nm, bg, mm_nD D, R, V, H, mm_nD ev, mm_nD eo, mm_nD eh, ol, mm_nD ck, mm_nD kc, mm_nD ep, mm_nD te, cu, fg, si, tb, pk))
    (h0 : n = 0 → ∀ t, t < 3 → p0 = nI t → z t = 0 → post (-1000000004) (nI n, ff, fo, fd, mm_nD z, kd, nm, bg, mm_nD D, R, V, H, mm_nD ev, mm_nD eo, mm_nD eh, ol, mm_nD ck, mm_nD kc, mm_nD ep, mm_nD te, cu, fg, si, tb, pk))
    (ho : n = 0 → ∀ t, t < 3 → p0 = nI t → ∀ k, z t = k + 1 → post (nI k) (nI n, ff, fo, fd, mm_nD (mm_un z t k), kd, nm, bg, mm_nD D, R, V, H, mm_nD ev, mm_nD eo, mm_nD eh, ol, mm_nD ck, mm_nD kc, mm_nD ep, mm_nD te, cu, fg, si, tb, pk)) : wpX_unprogram post (nI n, ff, fo, fd, mm_nD z, kd, nm, bg, mm_nD D, R, V, H, mm_nD ev, mm_nD eo, mm_nD eh, ol, mm_nD ck, mm_nD kc, mm_nD ep, mm_nD te, cu, fg, si, tb, pk) p0 := by
  unfold wpX_unprogram
  dsimp only
  by_cases q : ∃ t, t < 3 ∧ p0 = nI t
  · obtain ⟨t, ht, e⟩ := q
    have ec : (nI t).toNatClampNeg = t := nI_clamp (by omega)
    have hi3 : vp_in (nI t) 3 := vp_in_nI ht (by omega)
    have zt := hP.1 t ht
    have k1 := hy
    have k2 := ho
    have k0 := h0
    rw [e] at k0 k1 k2 ⊢
    refine xw_bt0 ht (br_t rfl ?_)
    by_cases zz : z t = 0
    · have e0 : nI (z t) = 0 := by rw [zz]; rfl
      simp only [forall_eq, mm_nDa, true_and, and_true, true_implies, false_implies, not_false_eq_true, not_true_eq_false, mm_i10, eq_self, mm_n0 (n := n) (by omega), ec, hi3, e0]
      exact br_c (fun a => k0 a t ht rfl zz) (fun a => k1 (by omega) ⟨t, ht, rfl⟩)
    · obtain ⟨k, hk⟩ : ∃ k, z t = k + 1 := ⟨z t - 1, by omega⟩
      have e0 : (nI (k + 1) = 0) = False := eq_false (nI_ne0 (by omega) (by omega))
      simp only [forall_eq, mm_nDa, true_and, and_true, true_implies, false_implies, not_false_eq_true, not_true_eq_false, mm_i10, eq_self, mm_n0 (n := n) (by omega), ec, hi3, hk, e0, nI_pred, mm_upd_nD, mm_us]
      exact br_c (fun a => k2 a t ht rfl k hk) (fun a => k1 (by omega) ⟨t, ht, rfl⟩)
  · refine xw_bt1 ?_ (br_f (by decide) (hb q))
    rcases pk_ix p0 (n := 3) (by omega) with a | a | a
    · exact Or.inl a
    · exact Or.inr a
    · exact absurd a q
theorem xw_again {post : SX → Prop} (h2 : ∀ i, 2 ≤ i → V i = 0 ∧ H i = 0) (h3 : ∀ i, 3 ≤ i → R i = 0 ∧ D i = 0) (hb : ∀ i, 2 ≤ i → bg i = 0)
    (h : post (0, ff, fo, fd, mm_nD z, kd, nm, bg, mm_nD (fun _ => 0), fun _ => 0, bg, mm_h0, mm_nD ev, mm_nD eo, mm_nD eh, ol, mm_nD ck, mm_nD kc, mm_nD ep, mm_nD te, cu, fg, si, tb, pk)) : wpX_again post (fc, ff, fo, fd, mm_nD z, kd, nm, bg, mm_nD D, R, V, H, mm_nD ev, mm_nD eo, mm_nD eh, ol, mm_nD ck, mm_nD kc, mm_nD ep, mm_nD te, cu, fg, si, tb, pk) := by
  have h' := h
  rw [← mm_z3n (f := D) (fun i hi => (h3 i hi).2), ← mm_z3 (f := R) (fun i hi => (h3 i hi).1), ← mm_h2 (f := H) (fun i hi => (h2 i hi).2)] at h'
  have eV := mm_b2 (f := V) (g := bg) (fun i hi => (h2 i hi).1.trans (hb i hi).symm)
  have i30 : vp_in 0 3 := vp_in_nI (n := 0) (by omega) (by omega)
  have i31 : vp_in 1 3 := vp_in_nI (n := 1) (by omega) (by omega)
  have i32 : vp_in 2 3 := vp_in_nI (n := 2) (by omega) (by omega)
  have i20 : vp_in 0 2 := vp_in_nI (n := 0) (by omega) (by omega)
  have i21 : vp_in 1 2 := vp_in_nI (n := 1) (by omega) (by omega)
  have l30 : ((3 : Int32) ≤ 0) = False := by decide
  have l31 : ((3 : Int32) ≤ 1) = False := by decide
  have l32 : ((3 : Int32) ≤ 2) = False := by decide
  have l33 : ((3 : Int32) ≤ 3) = True := by decide
  have l20 : ((2 : Int32) ≤ 0) = False := by decide
  have l21 : ((2 : Int32) ≤ 1) = False := by decide
  have l22 : ((2 : Int32) ≤ 2) = True := by decide
  have a0 : (0 : Int32) + 1 = 1 := by decide
  have a1 : (1 : Int32) + 1 = 2 := by decide
  have a2 : (2 : Int32) + 1 = 3 := by decide
  refine ⟨4, ?_⟩
  simp only [wX_again_7, forall_eq, mm_nDa, true_and, and_true, true_implies, false_implies, not_false_eq_true, not_true_eq_false, mm_i10, eq_self, l30, l31, l32, l33, i30, i31, i32, mm_c0, mm_c1, mm_c2, a0, a1, a2]
  refine ⟨3, ?_⟩
  simp only [wX_again_34, forall_eq, mm_nDa, true_and, and_true, true_implies, false_implies, not_false_eq_true, not_true_eq_false, mm_i10, eq_self, l20, l21, l22, i20, i21, mm_c0, mm_c1, a0, a1, eV]
  exact h'
end
end
section
/-! a step and its taking back, in the relation -/
section
variable {z D ev eo eh ck kc ep te yd : Nat → Nat} {kd nm bg R V H ol yo : Nat → Int32} {n : Nat}
theorem rl_step {t : Nat} {V' R' H' yo' : Nat → Int32} {D' c q : Nat → Nat} (hF : rl_F z D ev eo eh ck kc ep te yd kd nm bg R V H ol yo n) (ht : t < 3) (he : mm_en z kd nm t (V, R, H, D) = true)
    (hs : mm_stp kd nm t (V, R, H, D) = (V', R', H', D')) (hc : ev_C false kd nm (mm_un ev n t) (n + 1) c) (hq : ev_C true kd nm (mm_un ev n t) (n + 1) q)
    (hy : ∀ i, i ≠ n → yo' i = yo i) (hy' : kd (4 * t + D t) ≠ 3 → kd (4 * t + D t) ≠ 4 → yo' n = mm_old kd nm t (V, R, H, D)) :
    rl_F z D' (mm_un ev n t) (mm_un eo n (4 * t + D t)) (mm_un eh n (mm_hv H t)) c q (mm_un ep n (D t)) (mm_un te (4 * t + D t) n) (mm_un yd n (4 * t + D t)) kd nm bg R' V' H' (upd ol n (mm_old kd nm t (V, R, H, D))) yo' (n + 1) := by
  have hg : ∀ i, i < n → mm_un ev n t i = ev i := fun i hi => mm_ud (by omega)
  have hn : mm_un ev n t n = t := mm_us _ _ _
  have hS := ev_S_cg (kd := kd) (nm := nm) (bg := bg) hg
  have hSn : ev_S kd nm bg (mm_un ev n t) n = (V, R, H, D) := (hS n (Nat.le_refl _)).trans hF.2.2.1
  have hD : D t = ev_c (mm_un ev n t) t n := by rw [rl_D hF, ev_c_cg hg t n (Nat.le_refl _)]
  have hon : ev_o (mm_un ev n t) n = 4 * t + D t := by unfold ev_o; rw [hn, hD]
  have ho : ∀ i, i < n → ev_o (mm_un ev n t) i = ev_o ev i := fun i hi => ev_o_cg hg hi
  have hd4 : D t < 4 := Nat.lt_of_lt_of_le (mm_lt (rl_W hF) ht he) (hF.1.1 t ht)
  refine ⟨hF.1, ⟨hF.2.1.1, fun i hi => ?_⟩, ?_, fun i hi => ?_, fun i hi => ?_, hc, hq, fun i hi => ?_, fun i hi => ?_⟩
  · by_cases e : i = n
    · subst e; rw [hn, hSn]; exact ⟨ht, he⟩
    · exact (ev_Ok_cg hg hF.2.1).2 i (by omega)
  · rw [ev_S, hn, hSn]; exact hs
  · by_cases e : i = n
    · subst e
      rw [hon, hn, hSn, mm_us, mm_us, mm_us, mm_us]
      exact ⟨rfl, hD, rfl, rfl⟩
    · have hi' : i < n := by omega
      have f := hF.2.2.2.1 i hi'
      rw [ho i hi', hg i hi', ev_c_cg hg _ i (by omega), hS i (by omega), mm_ud e, mm_ud e, mm_ud e]
      refine ⟨f.1, f.2.1, ?_, f.2.2.2⟩
      rw [mm_ud]
      · exact f.2.2.1
      · intro w
        have p4 := ev_p4 hF.1 hF.2.1 hi'
        have e1 : ev i = t := by unfold ev_o at w; omega
        have e2 : ev_c ev (ev i) i = D t := by unfold ev_o at w; omega
        rw [e1, rl_D hF] at e2
        dsimp only at e2
        have := ev_c_lt (ev := ev) hi' e1
        omega
  · by_cases e : i = n
    · subst e; rw [hn, hSn, pk_us]; exact fun _ _ => rfl
    · have hi' : i < n := by omega
      rw [ho i hi', hg i hi', hS i (by omega), pk_un e]
      exact hF.2.2.2.2.1 i hi'
  · by_cases e : i = n
    · subst e; rw [hon, mm_us]
    · rw [mm_ud e, ho i (by omega)]; exact hF.2.2.2.2.2.2.2.1 i (by omega)
  · by_cases e : i = n
    · subst e; rw [hon, hn, hSn]; exact hy'
    · have hi' : i < n := by omega
      rw [ho i hi', hg i hi', hS i (by omega), hy i e]
      exact hF.2.2.2.2.2.2.2.2 i hi'
theorem rl_back (hF : rl_F z D ev eo eh ck kc ep te yd kd nm bg R V H ol yo (n + 1)) : ∃ V0 R0 H0 D0, mm_stp kd nm (ev n) (V0, R0, H0, D0) = (V, R, H, D) ∧ mm_en z kd nm (ev n) (V0, R0, H0, D0) = true ∧ rl_F z D0 ev eo eh ck kc ep te yd kd nm bg R0 V0 H0 ol yo n ∧
    ev_o ev n = 4 * ev n + D0 (ev n) ∧ ev_S kd nm bg ev n = (V0, R0, H0, D0) := by
  obtain ⟨V0, R0, H0, D0, e⟩ : ∃ V0 R0 H0 D0, ev_S kd nm bg ev n = (V0, R0, H0, D0) := ⟨_, _, _, _, rfl⟩
  have a := hF.2.2.1
  rw [ev_S, e] at a
  have b := (hF.2.1.2 n (by omega)).2
  rw [e] at b
  have hF' : rl_F z D0 ev eo eh ck kc ep te yd kd nm bg R0 V0 H0 ol yo n :=
    ⟨hF.1, ⟨hF.2.1.1, fun i hi => hF.2.1.2 i (by omega)⟩, e, fun i hi => hF.2.2.2.1 i (by omega), fun i hi => hF.2.2.2.2.1 i (by omega), ev_C_mono (by omega) hF.2.2.2.2.2.1, ev_C_mono (by omega) hF.2.2.2.2.2.2.1, fun i hi => hF.2.2.2.2.2.2.2.1 i (by omega), fun i hi => hF.2.2.2.2.2.2.2.2 i (by omega)⟩
  refine ⟨V0, R0, H0, D0, a, b, hF', ?_, e⟩
  unfold ev_o
  rw [rl_D hF']
end
section
variable {z D ev eo eh ck kc ep te yd : Nat → Nat} {kd nm bg R V H ol yo cu fg si tb pk : Nat → Int32} {n : Nat} {fc ff fo fd : Int32}
theorem xw_step {post : Int32 → SX → Prop} {p0 : Int32} (hF : rl_F z D ev eo eh ck kc ep te yd kd nm bg R V H ol yo n)
    (hb : (¬ ∃ t, t < 3 ∧ p0 = nI t) → post (-1000000001) (nI n, ff, fo, fd, mm_nD z, kd, nm, bg, mm_nD D, R, V, H, mm_nD ev, mm_nD eo, mm_nD eh, ol, mm_nD ck, mm_nD kc, mm_nD ep, mm_nD te, cu, fg, si, tb, pk)) (h0 : ∀ t, t < 3 → p0 = nI t → mm_en z kd nm t (V, R, H, D) = false → post (-1000000004) (nI n, ff, fo, fd, mm_nD z, kd, nm, bg, mm_nD D, R, V, H, mm_nD ev, mm_nD eo, mm_nD eh, ol, mm_nD ck, mm_nD kc, mm_nD ep, mm_nD te, cu, fg, si, tb, pk))
    (ho : ∀ t V' R' H' D' c q, t < 3 → p0 = nI t → mm_en z kd nm t (V, R, H, D) = true → mm_stp kd nm t (V, R, H, D) = (V', R', H', D') → ev_C false kd nm (mm_un ev n t) (n + 1) c → ev_C true kd nm (mm_un ev n t) (n + 1) q →
      post (nI n) (nI (n + 1), ff, fo, fd, mm_nD z, kd, nm, bg, mm_nD D', R', V', H', mm_nD (mm_un ev n t), mm_nD (mm_un eo n (4 * t + D t)), mm_nD (mm_un eh n (mm_hv H t)), upd ol n (mm_old kd nm t (V, R, H, D)), mm_nD c, mm_nD q, mm_nD (mm_un ep n (D t)), mm_nD (mm_un te (4 * t + D t) n), cu, fg, si, tb, pk)) :
    wpX_step post (nI n, ff, fo, fd, mm_nD z, kd, nm, bg, mm_nD D, R, V, H, mm_nD ev, mm_nD eo, mm_nD eh, ol, mm_nD ck, mm_nD kc, mm_nD ep, mm_nD te, cu, fg, si, tb, pk) p0 := by
  unfold wpX_step
  dsimp only
  by_cases q : ∃ t, t < 3 ∧ p0 = nI t
  · obtain ⟨t, ht, e⟩ := q
    have k0 := h0
    have ko := ho
    rw [e] at k0 ko ⊢
    have hW := rl_W hF
    have hn8 := rl_n8 hF
    refine xw_bt0 ht (br_t rfl (xw_isEnabled ht hF.1 (hW.1 t ht) (fun he => br_f (by decide) ?_) (fun he => br_t rfl (k0 t ht rfl he))))
    have hl := mm_lt hW ht he
    have hz := hF.1.1 t ht
    have hl' : D t < z t := hl
    have ec : (nI t).toNatClampNeg = t := nI_clamp (by omega)
    have en : (nI n).toNatClampNeg = n := nI_clamp (by omega)
    have vt : vp_in (nI t) 3 := vp_in_nI ht (by omega)
    have vn : vp_in (nI n) 12 := vp_in_nI (by omega) (by omega)
    have vo : vp_in (nI (4 * t + D t)) 12 := vp_in_nI (by omega) (by omega)
    have eo' : (nI (4 * t + D t)).toNatClampNeg = 4 * t + D t := nI_clamp (by omega)
    simp only [forall_eq, mm_nDa, true_and, ec, en, vt, vn, mm_4, vo, eo', mm_upd_nD]
    refine xw_heldBy ?_
    simp only [forall_eq, mm_nDa, true_and, ec, en, vt, vn, mm_4, vo, eo', mm_upd_nD]
    refine xw_perform ht hF.1 hl' (fun V' R' H' D' hs => ?_)
    simp only [forall_eq, true_and, en, vn, nI_1]
    have hg : ∀ i, i < n → mm_un ev n t i = ev i := fun i hi => mm_ud (by omega)
    have hFs := fun c q hc hq => rl_step (c := c) (q := q) (yo' := upd yo n (mm_old kd nm t (V, R, H, D))) hF ht he hs hc hq (fun i hi => pk_un hi) (fun _ _ => pk_us)
    have hE' : rl_E (mm_un ev n t) (mm_un eo n (4 * t + D t)) (mm_un ep n (D t)) (mm_un te (4 * t + D t) n) (n + 1) := by
      have hD : D t = ev_c (mm_un ev n t) t n := by rw [rl_D hF, ev_c_cg hg t n (Nat.le_refl _)]
      have hn : mm_un ev n t n = t := mm_us _ _ _
      refine ⟨?_, fun i hi => ?_⟩
      · have a0 := hW.1 0 (by omega)
        have a1 := hW.1 1 (by omega)
        have a2 := hW.1 2 (by omega)
        have s := ev_c_sum (ev := ev) (n := n) (fun i hi => (hF.2.1.2 i hi).1)
        have d := rl_D hF
        have d0 : D 0 = ev_c ev 0 n := by rw [d]
        have d1 : D 1 = ev_c ev 1 n := by rw [d]
        have d2 : D 2 = ev_c ev 2 n := by rw [d]
        have zs := hF.1.2.1
        dsimp only at a0 a1 a2
        rcases (by omega : t = 0 ∨ t = 1 ∨ t = 2) with rfl | rfl | rfl <;> omega
      · by_cases w : i = n
        · subst w
          have hon : ev_o (mm_un ev i t) i = 4 * t + D t := by unfold ev_o; rw [hn, hD]
          rw [hon, hn, mm_us, mm_us, mm_us, ← hD]
          exact ⟨ht, rfl, rfl, rfl, by omega⟩
        · have hi' : i < n := by omega
          have f := (rl_toE hF).2 i hi'
          have ho12 : ev_o ev i ≠ 4 * t + D t := by
            intro w2
            have e1 : ev i = t := by unfold ev_o at w2; omega
            have e2 : ev_c ev (ev i) i = D t := by unfold ev_o at w2; omega
            rw [e1, rl_D hF] at e2
            dsimp only at e2
            have := ev_c_lt (ev := ev) hi' e1
            omega
          rw [ev_o_cg hg hi', hg i hi', ev_c_cg hg _ i (by omega), mm_ud w, mm_ud w, mm_ud ho12]
          exact f
    refine xw_setClocks (n := n) hE' (ev_C_cg hg (fun _ _ => rfl) hF.2.2.2.2.2.1) (ev_C_cg hg (fun _ _ => rfl) hF.2.2.2.2.2.2.1) (fun c q hc hq => ?_)
    exact ko t V' R' H' D' c q ht rfl he hs hc hq
  · refine xw_bt1 ?_ (br_f (by decide) (hb q))
    rcases pk_ix p0 (n := 3) (by omega) with a | a | a
    · exact Or.inl a
    · exact Or.inr a
    · exact absurd a q
theorem xw_back {post : Int32 → SX → Prop} (hF : rl_F z D ev eo eh ck kc ep te yd kd nm bg R V H ol yo n)
    (h0 : n = 0 → post (-1000000004) (nI n, ff, fo, fd, mm_nD z, kd, nm, bg, mm_nD D, R, V, H, mm_nD ev, mm_nD eo, mm_nD eh, ol, mm_nD ck, mm_nD kc, mm_nD ep, mm_nD te, cu, fg, si, tb, pk))
    (ho : ∀ m V0 R0 H0 D0, n = m + 1 → mm_stp kd nm (ev m) (V0, R0, H0, D0) = (V, R, H, D) → mm_en z kd nm (ev m) (V0, R0, H0, D0) = true → rl_F z D0 ev eo eh ck kc ep te yd kd nm bg R0 V0 H0 ol yo m → ev_o ev m = 4 * ev m + D0 (ev m) →
      post (nI (ev m)) (nI m, ff, fo, fd, mm_nD z, kd, nm, bg, mm_nD D0, R0, V0, H0, mm_nD ev, mm_nD eo, mm_nD eh, ol, mm_nD ck, mm_nD kc, mm_nD ep, mm_nD te, cu, fg, si, tb, pk)) : wpX_back post (nI n, ff, fo, fd, mm_nD z, kd, nm, bg, mm_nD D, R, V, H, mm_nD ev, mm_nD eo, mm_nD eh, ol, mm_nD ck, mm_nD kc, mm_nD ep, mm_nD te, cu, fg, si, tb, pk) := by
  have hn8 := rl_n8 hF
  unfold wpX_back
  dsimp only
  cases n with
  | zero => exact br_t rfl (h0 rfl)
  | succ m =>
    obtain ⟨V0, R0, H0, D0, hs, he, hF', hm, hS⟩ := rl_back hF
    have k := ho m V0 R0 H0 D0 rfl hs he hF' hm
    have em : (nI m).toNatClampNeg = m := nI_clamp (by omega)
    have vm : vp_in (nI m) 12 := vp_in_nI (by omega) (by omega)
    have ht := (hF.2.1.2 m (by omega)).1
    refine br_f (nI_ne0 (by omega) (by omega)) (nm_r (nI_pred m) (And.intro vm (And.intro vm ?_)))
    simp only [mm_nDa, em]
    refine xw_takeBack ht hF.1 (mm_lt (rl_W hF') ht he) he hs (fun a b => ?_) ?_
    · have f := hF.2.2.2.2.1 m (by omega)
      rw [hm, hS] at f
      exact f a b
    · simp only [em]
      exact And.intro vm k
end
end
section
/-! Y: the methods that change programs and events -/
section
variable {z D yd ev eo eh ck kc ep te : Nat → Nat} {kd nm bg R V H ol yo rl sm kp tr yf : Nat → Int32} {n : Nat} {gc gf gd : Int32}
theorem yw_bad {N : Nat} {p : Int32} (hN : N < 2 ^ 31) (q : ¬ ∃ t, t < N ∧ p = nI t) : p < 0 ∨ nI N ≤ p := by
  rcases pk_ix p (n := N) hN with a | a | a
  · exact Or.inl a
  · exact Or.inr a
  · exact absurd a q
theorem yw_program {post : Int32 → SY → Prop} {p0 p1 p2 : Int32} (hP : mm_P z kd nm) (hn : n ≤ 8)
    (hb : ¬ pg_G p0 p1 p2 → post (-1000000001) (nI n, gf, gd, kd, nm, mm_nD z, bg, V, R, H, mm_nD D, mm_nD yd, yo, rl, sm, kp, tr, yf)) (hy : 0 < n → pg_G p0 p1 p2 → post (-1000000003) (nI n, gf, gd, kd, nm, mm_nD z, bg, V, R, H, mm_nD D, mm_nD yd, yo, rl, sm, kp, tr, yf))
    (hf : n = 0 → ∀ t, t < 3 → p0 = nI t → pg_G p0 p1 p2 → (z t = 4 ∨ z 0 + z 1 + z 2 = 8) → post (-1000000002) (nI n, gf, gd, kd, nm, mm_nD z, bg, V, R, H, mm_nD D, mm_nD yd, yo, rl, sm, kp, tr, yf))
    (ho : n = 0 → ∀ t, t < 3 → p0 = nI t → pg_G p0 p1 p2 → z t < 4 → z 0 + z 1 + z 2 < 8 → post (nI (z t)) (nI n, gf, gd, upd kd (4 * t + z t) p1, upd nm (4 * t + z t) p2, mm_nD (mm_un z t (z t + 1)), bg, V, R, H, mm_nD D, mm_nD yd, yo, rl, sm, kp, tr, yf)) :
    wpY_program post (nI n, gf, gd, kd, nm, mm_nD z, bg, V, R, H, mm_nD D, mm_nD yd, yo, rl, sm, kp, tr, yf) p0 p1 p2 := by
  have h31 : ∀ z0 : Int32, (z0 = 1 ∧ ((p1 = 2 → ¬ p2 < -9 ∧ ¬ 9 < p2) ∧ (¬ p1 = 2 → ∃ m, m < 2 ∧ p2 = nI m))) ∨ (z0 = 0 ∧ ¬ pg_G p0 p1 p2) → wY_program_31 post p0 p1 p2 z0 (nI n) gf gd kd nm (mm_nD z) bg V R H (mm_nD D) (mm_nD yd) yo rl sm kp tr yf := fun z0 hz => by
    unfold wY_program_31
    by_cases q : ∃ t, t < 3 ∧ p0 = nI t
    · obtain ⟨t, ht, e⟩ := q
      by_cases qk : ¬ p1 < 0 ∧ p1 ≤ 4
      · have r5 : ∃ j, j ≤ 4 ∧ p1 = nI j := nI_of2 (M := 4) (n := 4) (by decide) qk.1 qk.2
        obtain ⟨j, hj, ej⟩ := r5
        have kb := hb
        have ky := hy
        have kf := hf
        have ko := ho
        rw [e, ej] at kb ky kf ko ⊢
        refine yw_in1 (h := 2) (by omega) (by omega) (br_f (by decide) (yw_in1 (h := 4) (by omega) hj (br_f (by decide) ?_)))
        rcases hz with ⟨rfl, hz⟩ | ⟨rfl, hz⟩
        · rw [ej] at hz
          have hG : pg_G (nI t) (nI j) p2 := ⟨⟨t, ht, rfl⟩, by rw [← ej]; exact qk, hz⟩
          refine br_f (by decide) ?_
          have ec : (nI t).toNatClampNeg = t := nI_clamp (by omega)
          have hi3 : vp_in (nI t) 3 := vp_in_nI ht (by omega)
          have z0 := hP.1 0 (by omega)
          have z1 := hP.1 1 (by omega)
          have z2 := hP.1 2 (by omega)
          have zs := hP.2.1
          have zt := hP.1 t ht
          have e4 : (nI (z t) = 4) = (z t = 4) := propext (nI_eq (b := 4) (by omega) (by omega))
          have e8 : (nI (z 0 + z 1 + z 2) = 8) = (z 0 + z 1 + z 2 = 8) := propext (nI_eq (b := 8) (by omega) (by omega))
          have hn0 := mm_n0 (n := n) (by omega)
          by_cases q : n = 0
          · by_cases q4 : z t = 4
            · have := kf q t ht rfl hG (Or.inl q4)
              simp only [forall_eq, mm_nDa, true_and, and_true, true_implies, false_implies, not_false_eq_true, not_true_eq_false, mm_i10, eq_self, hn0, ec, hi3, e4]
              exact br_t q (br_t q4 this)
            · by_cases q8 : z 0 + z 1 + z 2 = 8
              · have := kf q t ht rfl hG (Or.inr q8)
                simp only [forall_eq, mm_nDa, true_and, and_true, true_implies, false_implies, not_false_eq_true, not_true_eq_false, mm_i10, eq_self, hn0, ec, hi3, e4, nI_add, e8]
                exact br_t q (br_f q4 (br_t q8 this))
              · have := ko q t ht rfl hG (by omega) (by omega)
                have v12 : vp_in (nI (4 * t + z t)) 12 := vp_in_nI (by omega) (by omega)
                have c12 : (nI (4 * t + z t)).toNatClampNeg = 4 * t + z t := nI_clamp (by omega)
                simp only [forall_eq, mm_nDa, true_and, and_true, true_implies, false_implies, not_false_eq_true, not_true_eq_false, mm_i10, eq_self, hn0, ec, hi3, e4, nI_add, e8, mm_4, v12, c12, nI_1, mm_upd_nD, mm_us, nI_pred]
                exact br_t q (br_f q4 (br_f q8 this))
          · have := ky (by omega) hG
            simp only [hn0]
            exact br_f q this
        · rw [e, ej] at hz
          exact br_t rfl (kb hz)
      · have hng : ¬ pg_G p0 p1 p2 := fun g => qk g.2.1
        have kb := hb hng
        rw [e]
        refine yw_in1 (h := 2) (by omega) (by omega) (br_f (by decide) (yw_in0 (h := 4) (by omega) ?_ (br_t rfl kb)))
        refine yw_bad (by omega) fun ⟨j, hj, ej⟩ => qk ?_
        rw [ej]
        exact ⟨nI_pos (by omega), nI_le (b := 4) (by omega) (by decide)⟩
    · exact yw_in0 (h := 2) (by omega) (yw_bad (by omega) q) (br_t rfl (hb fun g => q g.1))
  have h21 : ¬ pg_G p0 p1 p2 → wY_program_21 post p0 p1 p2 (nI n) gf gd kd nm (mm_nD z) bg V R H (mm_nD D) (mm_nD yd) yo rl sm kp tr yf := fun h => by
    unfold wY_program_21
    exact h31 0 (Or.inr ⟨rfl, h⟩)
  unfold wpY_program
  dsimp only
  refine br_c (fun c => br_c (fun d => h21 fun g => (g.2.2.1 c).1 d) (fun d => br_c (fun e => h21 fun g => (g.2.2.1 c).2 e) (fun e => ?_))) (fun c => ?_)
  · exact h31 1 (Or.inl ⟨rfl, fun _ => ⟨d, e⟩, fun f => absurd c f⟩)
  · by_cases q : ∃ m, m < 2 ∧ p2 = nI m
    · obtain ⟨m, hm, e⟩ := q
      have k := h31 1 (Or.inl ⟨rfl, fun f => absurd f c, fun _ => ⟨m, hm, e⟩⟩)
      rw [e] at k ⊢
      exact yw_in1 (h := 1) (by omega) (by omega) k
    · exact yw_in0 (h := 1) (by omega) (yw_bad (by omega) q) (h31 0 (Or.inr ⟨rfl, fun g => q (g.2.2.2 c)⟩))
theorem yw_begin {post : Int32 → SY → Prop} {p0 p1 : Int32} (hn : n ≤ 8)
    (hb : (¬ ∃ m, m < 2 ∧ p0 = nI m) → post (-1000000001) (nI n, gf, gd, kd, nm, mm_nD z, bg, V, R, H, mm_nD D, mm_nD yd, yo, rl, sm, kp, tr, yf)) (hy : 0 < n → (∃ m, m < 2 ∧ p0 = nI m) → post (-1000000003) (nI n, gf, gd, kd, nm, mm_nD z, bg, V, R, H, mm_nD D, mm_nD yd, yo, rl, sm, kp, tr, yf))
    (ho : n = 0 → ∀ m, m < 2 → p0 = nI m → post (bg m) (nI n, gf, gd, kd, nm, mm_nD z, upd bg m p1, upd V m p1, R, H, mm_nD D, mm_nD yd, yo, rl, sm, kp, tr, yf)) : wpY_begin post (nI n, gf, gd, kd, nm, mm_nD z, bg, V, R, H, mm_nD D, mm_nD yd, yo, rl, sm, kp, tr, yf) p0 p1 := by
  unfold wpY_begin
  dsimp only
  by_cases q : ∃ m, m < 2 ∧ p0 = nI m
  · obtain ⟨m, hm, e⟩ := q
    have ec : (nI m).toNatClampNeg = m := nI_clamp (by omega)
    have hi2 : vp_in (nI m) 2 := vp_in_nI hm (by omega)
    have k1 := hy
    have k2 := ho
    rw [e] at k1 k2 ⊢
    refine yw_in1 (h := 1) (by omega) (by omega) (br_f (by decide) ?_)
    simp only [forall_eq, mm_nDa, true_and, and_true, true_implies, false_implies, not_false_eq_true, not_true_eq_false, mm_i10, eq_self, mm_n0 (n := n) (by omega), ec, hi2]
    exact br_c (fun a => k2 a m hm rfl) (fun a => k1 (by omega) ⟨m, hm, rfl⟩)
  · exact yw_in0 (h := 1) (by omega) (yw_bad (by omega) q) (br_t rfl (hb q))
theorem yw_unprogram {post : Int32 → SY → Prop} {p0 : Int32} (hP : mm_P z kd nm) (hn : n ≤ 8)
    (hb : (¬ ∃ t, t < 3 ∧ p0 = nI t) → post (-1000000001) (nI n, gf, gd, kd, nm, mm_nD z, bg, V, R, H, mm_nD D, mm_nD yd, yo, rl, sm, kp, tr, yf)) (hy : 0 < n → (∃ t, t < 3 ∧ p0 = nI t) → post (-1000000003) (nI n, gf, gd, kd, nm, mm_nD z, bg, V, R, H, mm_nD D, mm_nD yd, yo, rl, sm, kp, tr, yf))
    (h0 : n = 0 → ∀ t, t < 3 → p0 = nI t → z t = 0 → post (-1000000004) (nI n, gf, gd, kd, nm, mm_nD z, bg, V, R, H, mm_nD D, mm_nD yd, yo, rl, sm, kp, tr, yf))
    (ho : n = 0 → ∀ t, t < 3 → p0 = nI t → ∀ k, z t = k + 1 → post (nI k) (nI n, gf, gd, kd, nm, mm_nD (mm_un z t k), bg, V, R, H, mm_nD D, mm_nD yd, yo, rl, sm, kp, tr, yf)) : wpY_unprogram post (nI n, gf, gd, kd, nm, mm_nD z, bg, V, R, H, mm_nD D, mm_nD yd, yo, rl, sm, kp, tr, yf) p0 := by
  unfold wpY_unprogram
  dsimp only
  by_cases q : ∃ t, t < 3 ∧ p0 = nI t
  · obtain ⟨t, ht, e⟩ := q
    have ec : (nI t).toNatClampNeg = t := nI_clamp (by omega)
    have hi3 : vp_in (nI t) 3 := vp_in_nI ht (by omega)
    have zt := hP.1 t ht
    have k1 := hy
    have k2 := ho
    have k0 := h0
    rw [e] at k0 k1 k2 ⊢
    refine yw_in1 (h := 2) (by omega) (by omega) (br_f (by decide) ?_)
    by_cases zz : z t = 0
    · have e0 : nI (z t) = 0 := by rw [zz]; rfl
      simp only [forall_eq, mm_nDa, true_and, and_true, true_implies, false_implies, not_false_eq_true, not_true_eq_false, mm_i10, eq_self, mm_n0 (n := n) (by omega), ec, hi3, e0]
      exact br_c (fun a => k0 a t ht rfl zz) (fun a => k1 (by omega) ⟨t, ht, rfl⟩)
    · obtain ⟨k, hk⟩ : ∃ k, z t = k + 1 := ⟨z t - 1, by omega⟩
      have e0 : (nI (k + 1) = 0) = False := eq_false (nI_ne0 (by omega) (by omega))
      simp only [forall_eq, mm_nDa, true_and, and_true, true_implies, false_implies, not_false_eq_true, not_true_eq_false, mm_i10, eq_self, mm_n0 (n := n) (by omega), ec, hi3, hk, e0, nI_pred, mm_upd_nD, mm_us]
      exact br_c (fun a => k2 a t ht rfl k hk) (fun a => k1 (by omega) ⟨t, ht, rfl⟩)
  · exact yw_in0 (h := 2) (by omega) (yw_bad (by omega) q) (br_t rfl (hb q))
theorem yw_again {post : SY → Prop} (h2 : ∀ i, 2 ≤ i → V i = 0 ∧ H i = 0) (h3 : ∀ i, 3 ≤ i → R i = 0 ∧ D i = 0) (hb : ∀ i, 2 ≤ i → bg i = 0)
    (h : post (0, gf, gd, kd, nm, mm_nD z, bg, bg, fun _ => 0, mm_h0, mm_nD (fun _ => 0), mm_nD yd, yo, rl, sm, kp, tr, yf)) : wpY_again post (gc, gf, gd, kd, nm, mm_nD z, bg, V, R, H, mm_nD D, mm_nD yd, yo, rl, sm, kp, tr, yf) := by
  have h' := h
  rw [← mm_z3n (f := D) (fun i hi => (h3 i hi).2), ← mm_z3 (f := R) (fun i hi => (h3 i hi).1), ← mm_h2 (f := H) (fun i hi => (h2 i hi).2)] at h'
  have eV := mm_b2 (f := V) (g := bg) (fun i hi => (h2 i hi).1.trans (hb i hi).symm)
  have i30 : vp_in 0 3 := vp_in_nI (n := 0) (by omega) (by omega)
  have i31 : vp_in 1 3 := vp_in_nI (n := 1) (by omega) (by omega)
  have i32 : vp_in 2 3 := vp_in_nI (n := 2) (by omega) (by omega)
  have i20 : vp_in 0 2 := vp_in_nI (n := 0) (by omega) (by omega)
  have i21 : vp_in 1 2 := vp_in_nI (n := 1) (by omega) (by omega)
  have l30 : ((3 : Int32) ≤ 0) = False := by decide
  have l31 : ((3 : Int32) ≤ 1) = False := by decide
  have l32 : ((3 : Int32) ≤ 2) = False := by decide
  have l33 : ((3 : Int32) ≤ 3) = True := by decide
  have l20 : ((2 : Int32) ≤ 0) = False := by decide
  have l21 : ((2 : Int32) ≤ 1) = False := by decide
  have l22 : ((2 : Int32) ≤ 2) = True := by decide
  have a0 : (0 : Int32) + 1 = 1 := by decide
  have a1 : (1 : Int32) + 1 = 2 := by decide
  have a2 : (2 : Int32) + 1 = 3 := by decide
  refine ⟨4, ?_⟩
  simp only [wY_again_7, forall_eq, mm_nDa, true_and, and_true, true_implies, false_implies, not_false_eq_true, not_true_eq_false, mm_i10, eq_self, l30, l31, l32, l33, i30, i31, i32, mm_c0, mm_c1, mm_c2, a0, a1, a2]
  refine ⟨3, ?_⟩
  simp only [wY_again_34, forall_eq, mm_nDa, true_and, and_true, true_implies, false_implies, not_false_eq_true, not_true_eq_false, mm_i10, eq_self, l20, l21, l22, i20, i21, mm_c0, mm_c1, a0, a1, eV]
  exact h'
/-- there is room for one more event -/
theorem rl_n7 {t : Nat} (hF : rl_F z D ev eo eh ck kc ep te yd kd nm bg R V H ol yo n) (ht : t < 3) (he : mm_en z kd nm t (V, R, H, D) = true) : n < 8 := by
  have hW := rl_W hF
  have hl' : D t < z t := mm_lt hW ht he
  have a0 := hW.1 0 (by omega)
  have a1 := hW.1 1 (by omega)
  have a2 := hW.1 2 (by omega)
  have s := ev_c_sum (ev := ev) (n := n) (fun i hi => (hF.2.1.2 i hi).1)
  have d := rl_D hF
  have d0 : D 0 = ev_c ev 0 n := by rw [d]
  have d1 : D 1 = ev_c ev 1 n := by rw [d]
  have d2 : D 2 = ev_c ev 2 n := by rw [d]
  have zs := hF.1.2.1
  dsimp only at a0 a1 a2
  rcases (by omega : t = 0 ∨ t = 1 ∨ t = 2) with rfl | rfl | rfl <;> omega
theorem yw_step {post : Int32 → SY → Prop} {p0 : Int32} (hF : rl_F z D ev eo eh ck kc ep te yd kd nm bg R V H ol yo n)
    (hb : (¬ ∃ t, t < 3 ∧ p0 = nI t) → post (-1000000001) (nI n, gf, gd, kd, nm, mm_nD z, bg, V, R, H, mm_nD D, mm_nD yd, yo, rl, sm, kp, tr, yf)) (h0 : ∀ t, t < 3 → p0 = nI t → mm_en z kd nm t (V, R, H, D) = false → post (-1000000004) (nI n, gf, gd, kd, nm, mm_nD z, bg, V, R, H, mm_nD D, mm_nD yd, yo, rl, sm, kp, tr, yf))
    (ho : ∀ t V' R' H' D' yo', t < 3 → p0 = nI t → mm_en z kd nm t (V, R, H, D) = true → mm_stp kd nm t (V, R, H, D) = (V', R', H', D') → (∀ i, i ≠ n → yo' i = yo i) → (kd (4 * t + D t) ≠ 3 → kd (4 * t + D t) ≠ 4 → yo' n = mm_old kd nm t (V, R, H, D)) →
      post (nI n) (nI (n + 1), gf, gd, kd, nm, mm_nD z, bg, V', R', H', mm_nD D', mm_nD (mm_un yd n (4 * t + D t)), yo', rl, sm, kp, tr, yf)) : wpY_step post (nI n, gf, gd, kd, nm, mm_nD z, bg, V, R, H, mm_nD D, mm_nD yd, yo, rl, sm, kp, tr, yf) p0 := by
  unfold wpY_step
  dsimp only
  by_cases q : ∃ t, t < 3 ∧ p0 = nI t
  · obtain ⟨t, ht, e⟩ := q
    have k0 := h0
    have ko := ho
    rw [e] at k0 ko ⊢
    have hW := rl_W hF
    refine yw_in1 (h := 2) (by omega) (by omega) (br_f (by decide) (yw_isEnabled ht hF.1 (hW.1 t ht) (fun he => br_f (by decide) ?_) (fun he => br_t rfl (k0 t ht rfl he))))
    refine yw_go ht (rl_n7 hF ht he) hF.1 (mm_lt hW ht he) (fun V' R' H' D' yo' hs h1 h2 => ?_)
    simp only [nI_pred]
    exact ko t V' R' H' D' yo' ht rfl he hs h1 h2
  · exact yw_in0 (h := 2) (by omega) (yw_bad (by omega) q) (br_t rfl (hb q))
theorem yw_back {post : Int32 → SY → Prop} (hF : rl_F z D ev eo eh ck kc ep te yd kd nm bg R V H ol yo n)
    (h0 : n = 0 → post (-1000000004) (nI n, gf, gd, kd, nm, mm_nD z, bg, V, R, H, mm_nD D, mm_nD yd, yo, rl, sm, kp, tr, yf))
    (ho : ∀ m V0 R0 H0 D0, n = m + 1 → mm_stp kd nm (ev m) (V0, R0, H0, D0) = (V, R, H, D) → mm_en z kd nm (ev m) (V0, R0, H0, D0) = true → rl_F z D0 ev eo eh ck kc ep te yd kd nm bg R0 V0 H0 ol yo m → ev_o ev m = 4 * ev m + D0 (ev m) →
      post (nI (ev m)) (nI m, gf, gd, kd, nm, mm_nD z, bg, V0, R0, H0, mm_nD D0, mm_nD yd, yo, rl, sm, kp, tr, yf)) : wpY_back post (nI n, gf, gd, kd, nm, mm_nD z, bg, V, R, H, mm_nD D, mm_nD yd, yo, rl, sm, kp, tr, yf) := by
  have hn8 := rl_n8 hF
  unfold wpY_back
  dsimp only
  cases n with
  | zero => exact br_t rfl (h0 rfl)
  | succ m =>
    obtain ⟨V0, R0, H0, D0, hs, he, hF', hm, hS⟩ := rl_back hF
    have k := ho m V0 R0 H0 D0 rfl hs he hF' hm
    have ht := (hF.2.1.2 m (by omega)).1
    refine br_f (nI_ne0 (by omega) (by omega)) ?_
    refine yw_undo ht (by omega) hF.1 (mm_lt (rl_W hF') ht he) he hs ((hF.2.2.2.2.2.2.2.1 m (by omega)).trans hm) (fun a b => ?_) k
    have f := hF.2.2.2.2.2.2.2.2 m (by omega)
    rw [hm, hS] at f
    exact f a b
end
end
section
/-! the owed statements: the simple methods -/
theorem pg_K {p0 p1 p2 : Int32} (h : pg_G p0 p1 p2) : mm_K p1 p2 := by
  obtain ⟨j, hj, ej⟩ := nI_of2 (M := 4) (n := 4) (by decide) h.2.1.1 h.2.1.2
  have e01 : ¬ p1 = 2 → p2 = 0 ∨ p2 = 1 := fun q => by
    obtain ⟨m, hm, e⟩ := h.2.2.2 q
    rcases (by omega : m = 0 ∨ m = 1) with rfl | rfl
    · exact Or.inl e
    · exact Or.inr e
  rcases (by omega : j = 0 ∨ j = 1 ∨ j = 2 ∨ j = 3 ∨ j = 4) with rfl | rfl | rfl | rfl | rfl
  · exact Or.inl ⟨ej, e01 (by rw [ej]; decide)⟩
  · exact Or.inr (Or.inl ⟨ej, e01 (by rw [ej]; decide)⟩)
  · exact Or.inr (Or.inr (Or.inl ej))
  · exact Or.inr (Or.inr (Or.inr (Or.inl ⟨ej, e01 (by rw [ej]; decide)⟩)))
  · exact Or.inr (Or.inr (Or.inr (Or.inr ⟨ej, e01 (by rw [ej]; decide)⟩)))
theorem pg_P {z : Nat → Nat} {kd nm : Nat → Int32} {t : Nat} {p1 p2 : Int32} (hP : mm_P z kd nm) (ht : t < 3) (h4 : z t < 4) (h8 : z 0 + z 1 + z 2 < 8) (hK : mm_K p1 p2) :
    mm_P (mm_un z t (z t + 1)) (upd kd (4 * t + z t) p1) (upd nm (4 * t + z t) p2) := by
  refine ⟨fun u hu => ?_, ?_, fun u p hu hp => ?_⟩
  · by_cases e : u = t
    · subst e; rw [mm_us]; omega
    · rw [mm_ud e]; exact hP.1 u hu
  · rcases (by omega : t = 0 ∨ t = 1 ∨ t = 2) with rfl | rfl | rfl
    · rw [mm_us, mm_ud (by omega), mm_ud (by omega)]; omega
    · rw [mm_us, mm_ud (by omega), mm_ud (by omega)]; omega
    · rw [mm_us, mm_ud (by omega), mm_ud (by omega)]; omega
  · by_cases e : u = t
    · subst e
      rw [mm_us] at hp
      by_cases e2 : p = z u
      · subst e2; rw [pk_us, pk_us]; exact hK
      · rw [pk_un (by omega), pk_un (by omega)]; exact hP.2.2 u p hu (by omega)
    · rw [mm_ud e] at hp
      have := hP.1 u hu
      rw [pk_un (by omega), pk_un (by omega)]
      exact hP.2.2 u p hu hp
theorem pg_Q {z : Nat → Nat} {kd nm : Nat → Int32} {t k : Nat} (hP : mm_P z kd nm) (ht : t < 3) (hk : z t = k + 1) : mm_P (mm_un z t k) kd nm := by
  refine ⟨fun u hu => ?_, ?_, fun u p hu hp => ?_⟩
  · by_cases e : u = t
    · subst e; rw [mm_us]; have := hP.1 u hu; omega
    · rw [mm_ud e]; exact hP.1 u hu
  · have := hP.2.1
    rcases (by omega : t = 0 ∨ t = 1 ∨ t = 2) with rfl | rfl | rfl
    · rw [mm_us, mm_ud (by omega), mm_ud (by omega)]; omega
    · rw [mm_us, mm_ud (by omega), mm_ud (by omega)]; omega
    · rw [mm_us, mm_ud (by omega), mm_ud (by omega)]; omega
  · by_cases e : u = t
    · subst e
      rw [mm_us] at hp
      exact hP.2.2 u p hu (by omega)
    · rw [mm_ud e] at hp
      exact hP.2.2 u p hu hp
theorem i_vc0 : wpX_init (fun u => wpY_init (fun v => i_Rel 0 u v)) := by
  have hP : mm_P (fun _ => 0) (fun _ => 0) (fun _ => 0) := ⟨fun _ _ => Nat.zero_le _, by decide, fun t p _ hp => absurd hp (Nat.not_lt_zero _)⟩
  unfold wpX_init
  refine xw_again (z := fun _ => 0) (D := fun _ => 0) (ev := fun _ => 0) (eo := fun _ => 0) (eh := fun _ => 0) (ck := fun _ => 0) (kc := fun _ => 0) (ep := fun _ => 0) (te := fun _ => 0) (kd := fun _ => 0) (nm := fun _ => 0) (bg := fun _ => 0) (R := fun _ => 0) (V := fun _ => 0) (H := fun _ => 0) (ol := fun _ => 0) (cu := fun _ => 0) (fg := fun _ => 0) (si := fun _ => 0) (tb := fun _ => 0) (pk := fun _ => 0) (ff := 0) (fo := 0) (fd := 0) (fc := 0) (fun _ _ => ⟨rfl, rfl⟩) (fun _ _ => ⟨rfl, rfl⟩) (fun _ _ => rfl) ?_
  unfold wpY_init
  refine yw_again (z := fun _ => 0) (D := fun _ => 0) (yd := fun _ => 0) (kd := fun _ => 0) (nm := fun _ => 0) (bg := fun _ => 0) (R := fun _ => 0) (V := fun _ => 0) (H := fun _ => 0) (yo := fun _ => 0) (rl := fun _ => 0) (sm := fun _ => 0) (kp := fun _ => 0) (tr := fun _ => 0) (yf := fun _ => 0) (gf := 0) (gd := 0) (gc := 0) (fun _ _ => ⟨rfl, rfl⟩) (fun _ _ => ⟨rfl, rfl⟩) (fun _ _ => rfl) ?_
  exact rl_mk (rl_F0 (ev := fun _ => 0) (eo := fun _ => 0) (eh := fun _ => 0) (ck := fun _ => 0) (kc := fun _ => 0) (ep := fun _ => 0) (te := fun _ => 0) (yd := fun _ => 0) (ol := fun _ => 0) (yo := fun _ => 0) hP (fun _ _ => rfl))
theorem i_vc_program {k : Nat} {u : SX} {v : SY} (I : i_Rel k u v) (hk : k + 4 ≤ 2048) (v1 : Int32) (v2 : Int32) (v3 : Int32) : wpX_program (fun r u' => wpY_program (fun r' v' => r' = r ∧ i_Rel (k + 4) u' v') v v1 v2 v3) u v1 v2 v3 := by
  refine rl_el (P := fun u v => wpX_program (fun r u' => wpY_program (fun r' v' => r' = r ∧ i_Rel (k + 4) u' v') v v1 v2 v3) u v1 v2 v3) ?_ I
  intro z D ev eo eh ck kc ep te yd kd nm bg R V H ol cu fg si tb pk yo rl sm kp tr yf n ff fo fd gf gd hF
  have h8 := rl_n8 hF
  refine xw_program hF.1 h8 (fun g => ?_) (fun a g => ?_) (fun a t ht e g b => ?_) (fun a t ht e g b c => ?_)
  · exact yw_program hF.1 h8 (fun _ => ⟨rfl, rl_mk hF⟩) (fun _ g' => absurd g' g) (fun _ _ _ _ g' => absurd g' g) (fun _ _ _ _ g' => absurd g' g)
  · exact yw_program hF.1 h8 (fun g' => absurd g g') (fun _ _ => ⟨rfl, rl_mk hF⟩) (fun b => by omega) (fun b => by omega)
  · refine yw_program hF.1 h8 (fun g' => absurd g g') (fun _ _ => by omega) (fun _ _ _ _ _ _ => ⟨rfl, rl_mk hF⟩) (fun _ t' ht' e' _ c d => ?_)
    have : t = t' := (mm_nIe ht ht').mp (e.symm.trans e')
    subst this
    omega
  · refine yw_program hF.1 h8 (fun g' => absurd g g') (fun _ _ => by omega) (fun _ t' ht' e' _ d => ?_) (fun _ t' ht' e' _ d e2 => ?_)
    · have : t = t' := (mm_nIe ht ht').mp (e.symm.trans e')
      subst this
      omega
    · have : t = t' := (mm_nIe ht ht').mp (e.symm.trans e')
      subst this
      subst a
      obtain ⟨rfl, rfl, rfl, rfl⟩ := rl_S0 hF
      exact ⟨rfl, rl_mk (rl_F0 (pg_P hF.1 ht b c (pg_K g)) hF.2.1.1)⟩
theorem i_vc_begin {k : Nat} {u : SX} {v : SY} (I : i_Rel k u v) (hk : k + 4 ≤ 2048) (v1 : Int32) (v2 : Int32) : wpX_begin (fun r u' => wpY_begin (fun r' v' => r' = r ∧ i_Rel (k + 4) u' v') v v1 v2) u v1 v2 := by
  refine rl_el (P := fun u v => wpX_begin (fun r u' => wpY_begin (fun r' v' => r' = r ∧ i_Rel (k + 4) u' v') v v1 v2) u v1 v2) ?_ I
  intro z D ev eo eh ck kc ep te yd kd nm bg R V H ol cu fg si tb pk yo rl sm kp tr yf n ff fo fd gf gd hF
  have h8 := rl_n8 hF
  refine xw_begin h8 (fun g => ?_) (fun a g => ?_) (fun a m hm e => ?_)
  · exact yw_begin h8 (fun _ => ⟨rfl, rl_mk hF⟩) (fun _ g' => absurd g' g) (fun _ m hm e => absurd ⟨m, hm, e⟩ g)
  · exact yw_begin h8 (fun g' => absurd g g') (fun _ _ => ⟨rfl, rl_mk hF⟩) (fun b => by omega)
  · refine yw_begin h8 (fun g' => absurd ⟨m, hm, e⟩ g') (fun _ _ => by omega) (fun _ m' hm' e' => ?_)
    have : m = m' := (mm_nIe (by omega) (by omega)).mp (e.symm.trans e')
    subst this
    subst a
    obtain ⟨rfl, rfl, rfl, rfl⟩ := rl_S0 hF
    exact ⟨rfl, rl_mk (rl_F0 hF.1 (fun i hi => by rw [pk_un (by omega)]; exact hF.2.1.1 i hi))⟩
theorem i_vc_unprogram {k : Nat} {u : SX} {v : SY} (I : i_Rel k u v) (hk : k + 4 ≤ 2048) (v1 : Int32) : wpX_unprogram (fun r u' => wpY_unprogram (fun r' v' => r' = r ∧ i_Rel (k + 4) u' v') v v1) u v1 := by
  refine rl_el (P := fun u v => wpX_unprogram (fun r u' => wpY_unprogram (fun r' v' => r' = r ∧ i_Rel (k + 4) u' v') v v1) u v1) ?_ I
  intro z D ev eo eh ck kc ep te yd kd nm bg R V H ol cu fg si tb pk yo rl sm kp tr yf n ff fo fd gf gd hF
  have h8 := rl_n8 hF
  refine xw_unprogram hF.1 h8 (fun g => ?_) (fun a g => ?_) (fun a t ht e hz => ?_) (fun a t ht e j hz => ?_)
  · exact yw_unprogram hF.1 h8 (fun _ => ⟨rfl, rl_mk hF⟩) (fun _ g' => absurd g' g) (fun _ m hm e => absurd ⟨m, hm, e⟩ g) (fun _ m hm e => absurd ⟨m, hm, e⟩ g)
  · exact yw_unprogram hF.1 h8 (fun g' => absurd g g') (fun _ _ => ⟨rfl, rl_mk hF⟩) (fun b => by omega) (fun b => by omega)
  · refine yw_unprogram hF.1 h8 (fun g' => absurd ⟨t, ht, e⟩ g') (fun _ _ => by omega) (fun _ _ _ _ _ => ⟨rfl, rl_mk hF⟩) (fun _ t' ht' e' j hj => ?_)
    have : t = t' := (mm_nIe ht ht').mp (e.symm.trans e')
    subst this
    omega
  · refine yw_unprogram hF.1 h8 (fun g' => absurd ⟨t, ht, e⟩ g') (fun _ _ => by omega) (fun _ t' ht' e' hj => ?_) (fun _ t' ht' e' j' hj => ?_)
    · have : t = t' := (mm_nIe ht ht').mp (e.symm.trans e')
      subst this
      omega
    · have : t = t' := (mm_nIe ht ht').mp (e.symm.trans e')
      subst this
      have : j = j' := by omega
      subst this
      subst a
      obtain ⟨rfl, rfl, rfl, rfl⟩ := rl_S0 hF
      exact ⟨rfl, rl_mk (rl_F0 (pg_Q hF.1 ht hz) hF.2.1.1)⟩
theorem i_vc_step {k : Nat} {u : SX} {v : SY} (I : i_Rel k u v) (hk : k + 4 ≤ 2048) (v1 : Int32) : wpX_step (fun r u' => wpY_step (fun r' v' => r' = r ∧ i_Rel (k + 4) u' v') v v1) u v1 := by
  refine rl_el (P := fun u v => wpX_step (fun r u' => wpY_step (fun r' v' => r' = r ∧ i_Rel (k + 4) u' v') v v1) u v1) ?_ I
  intro z D ev eo eh ck kc ep te yd kd nm bg R V H ol cu fg si tb pk yo rl sm kp tr yf n ff fo fd gf gd hF
  refine xw_step hF (fun g => ?_) (fun t ht e h0 => ?_) (fun t V' R' H' D' c q ht e h1 hs hc hq => ?_)
  · exact yw_step hF (fun _ => ⟨rfl, rl_mk hF⟩) (fun m hm e => absurd ⟨m, hm, e⟩ g) (fun m _ _ _ _ _ hm e => absurd ⟨m, hm, e⟩ g)
  · refine yw_step hF (fun g' => absurd ⟨t, ht, e⟩ g') (fun _ _ _ _ => ⟨rfl, rl_mk hF⟩) (fun t' V' R' H' D' yo' ht' e' h1 => ?_)
    have : t = t' := (mm_nIe ht ht').mp (e.symm.trans e')
    subst this
    rw [h0] at h1
    exact absurd h1 (by decide)
  · refine yw_step hF (fun g' => absurd ⟨t, ht, e⟩ g') (fun t' ht' e' h0 => ?_) (fun t' V2 R2 H2 D2 yo' ht' e' _ hs' hy hy' => ?_)
    · have : t = t' := (mm_nIe ht ht').mp (e.symm.trans e')
      subst this
      rw [h0] at h1
      exact absurd h1 (by decide)
    · have : t = t' := (mm_nIe ht ht').mp (e.symm.trans e')
      subst this
      rw [hs] at hs'
      cases hs'
      exact ⟨rfl, rl_mk (rl_step hF ht h1 hs hc hq hy hy')⟩
theorem i_vc_back {k : Nat} {u : SX} {v : SY} (I : i_Rel k u v) (hk : k + 4 ≤ 2048) : wpX_back (fun r u' => wpY_back (fun r' v' => r' = r ∧ i_Rel (k + 4) u' v') v) u := by
  refine rl_el (P := fun u v => wpX_back (fun r u' => wpY_back (fun r' v' => r' = r ∧ i_Rel (k + 4) u' v') v) u) ?_ I
  intro z D ev eo eh ck kc ep te yd kd nm bg R V H ol cu fg si tb pk yo rl sm kp tr yf n ff fo fd gf gd hF
  refine xw_back hF (fun g => ?_) (fun m V0 R0 H0 D0 hm hs he hF' _ => ?_)
  · exact yw_back hF (fun _ => ⟨rfl, rl_mk hF⟩) (fun m _ _ _ _ hm => by omega)
  · refine yw_back hF (fun g => by omega) (fun m' V1 R1 H1 D1 hm' hs1 he1 hF1 _ => ?_)
    have : m = m' := by omega
    subst this
    have a := hF'.2.2.1.symm.trans hF1.2.2.1
    cases a
    exact ⟨rfl, rl_mk hF'⟩
theorem i_vc_again {k : Nat} {u : SX} {v : SY} (I : i_Rel k u v) (hk : k + 4 ≤ 2048) : wpX_again (fun u' => wpY_again (fun v' => i_Rel (k + 4) u' v') v) u := by
  refine rl_el (P := fun u v => wpX_again (fun u' => wpY_again (fun v' => i_Rel (k + 4) u' v') v) u) ?_ I
  intro z D ev eo eh ck kc ep te yd kd nm bg R V H ol cu fg si tb pk yo rl sm kp tr yf n ff fo fd gf gd hF
  exact xw_again (rl_W hF).2.2.1 (rl_W hF).2.2.2.1 hF.2.1.1 (yw_again (rl_W hF).2.2.1 (rl_W hF).2.2.2.1 hF.2.1.1 (rl_mk (rl_F0 hF.1 hF.2.1.1)))
theorem i_vc_events {k : Nat} {u : SX} {v : SY} (I : i_Rel k u v) (hk : k + 4 ≤ 2048) : wpX_events (fun r => wpY_events (fun r' => r' = r ∧ i_Rel (k + 4) u v) v) u := by
  refine rl_el (P := fun u v => wpX_events (fun r => wpY_events (fun r' => r' = r ∧ i_Rel (k + 4) u v) v) u) ?_ I
  intro z D ev eo eh ck kc ep te yd kd nm bg R V H ol cu fg si tb pk yo rl sm kp tr yf n ff fo fd gf gd hF
  exact ⟨rfl, rl_mk hF⟩
theorem i_vc_thread {k : Nat} {u : SX} {v : SY} (I : i_Rel k u v) (hk : k + 4 ≤ 2048) (v1 : Int32) : wpX_thread (fun r => wpY_thread (fun r' => r' = r ∧ i_Rel (k + 4) u v) v v1) u v1 := by
  refine rl_el (P := fun u v => wpX_thread (fun r => wpY_thread (fun r' => r' = r ∧ i_Rel (k + 4) u v) v v1) u v1) ?_ I
  intro z D ev eo eh ck kc ep te yd kd nm bg R V H ol cu fg si tb pk yo rl sm kp tr yf n ff fo fd gf gd hF
  have h8 := rl_n8 hF
  have hR := rl_mk (k := k + 4) (cu := cu) (fg := fg) (si := si) (tb := tb) (pk := pk) (rl := rl) (sm := sm) (kp := kp) (tr := tr) (yf := yf) (ff := ff) (fo := fo) (fd := fd) (gf := gf) (gd := gd) hF
  rcases pk_ix v1 (n := n) (by omega) with a | a | ⟨i, hi, rfl⟩
  · exact br_t a (br_f (by decide) (br_t a ⟨rfl, hR⟩))
  · have hq : ¬ v1 < 0 := by
      rw [Int32.le_iff_toInt_le, nI_toInt (by omega)] at a
      rw [Int32.lt_iff_toInt_lt, show (0 : Int32).toInt = 0 from by decide]
      omega
    exact br_f hq (br_f (Int32.not_lt.mpr a) (br_f (by decide) (br_f hq (br_t a ⟨rfl, hR⟩))))
  · have ei : (nI i).toNatClampNeg = i := nI_clamp (by omega)
    have vi : vp_in (nI i) 12 := vp_in_nI (by omega) (by omega)
    have vi8 : vp_in (nI i) 8 := vp_in_nI (by omega) (by omega)
    have yi := hF.2.2.2.2.2.2.2.1 i hi
    have di := rl_Gd (rl_toG hF) hi
    simp only [wpX_thread, wpX_noEvent, wpY_thread, forall_eq, mm_nDa, true_and, and_true, true_implies, false_implies, not_false_eq_true, not_true_eq_false, mm_i10, eq_self, mm_i40, ei, vi, vi8, yi, di]
    exact br_f (nI_pos (by omega)) (br_t (nI_lt hi (by omega)) (br_f (nI_pos (by omega)) (br_f (nI_ge hi (by omega)) hR)))
theorem i_vc_value {k : Nat} {u : SX} {v : SY} (I : i_Rel k u v) (hk : k + 4 ≤ 2048) (v1 : Int32) : wpX_value (fun r => wpY_value (fun r' => r' = r ∧ i_Rel (k + 4) u v) v v1) u v1 := by
  refine rl_el (P := fun u v => wpX_value (fun r => wpY_value (fun r' => r' = r ∧ i_Rel (k + 4) u v) v v1) u v1) ?_ I
  intro z D ev eo eh ck kc ep te yd kd nm bg R V H ol cu fg si tb pk yo rl sm kp tr yf n ff fo fd gf gd hF
  have hR := rl_mk (k := k + 4) (cu := cu) (fg := fg) (si := si) (tb := tb) (pk := pk) (rl := rl) (sm := sm) (kp := kp) (tr := tr) (yf := yf) (ff := ff) (fo := fo) (fd := fd) (gf := gf) (gd := gd) hF
  unfold wpX_value wpY_value
  dsimp only
  by_cases q : ∃ t, t < 2 ∧ v1 = nI t
  · obtain ⟨t, ht, rfl⟩ := q
    have vt : vp_in (nI t) 2 := vp_in_nI ht (by omega)
    exact xw_b20 ht (br_t rfl ⟨vt, yw_in1 (h := 1) (by omega) (by omega) (br_f (by decide) ⟨vt, rfl, hR⟩)⟩)
  · exact xw_b21 (yw_bad (by omega) q) (br_f (by decide) (yw_in0 (h := 1) (by omega) (yw_bad (by omega) q) (br_t rfl ⟨rfl, hR⟩)))
theorem i_vc_register {k : Nat} {u : SX} {v : SY} (I : i_Rel k u v) (hk : k + 4 ≤ 2048) (v1 : Int32) : wpX_register (fun r => wpY_register (fun r' => r' = r ∧ i_Rel (k + 4) u v) v v1) u v1 := by
  refine rl_el (P := fun u v => wpX_register (fun r => wpY_register (fun r' => r' = r ∧ i_Rel (k + 4) u v) v v1) u v1) ?_ I
  intro z D ev eo eh ck kc ep te yd kd nm bg R V H ol cu fg si tb pk yo rl sm kp tr yf n ff fo fd gf gd hF
  have hR := rl_mk (k := k + 4) (cu := cu) (fg := fg) (si := si) (tb := tb) (pk := pk) (rl := rl) (sm := sm) (kp := kp) (tr := tr) (yf := yf) (ff := ff) (fo := fo) (fd := fd) (gf := gf) (gd := gd) hF
  unfold wpX_register wpY_register
  dsimp only
  by_cases q : ∃ t, t < 3 ∧ v1 = nI t
  · obtain ⟨t, ht, rfl⟩ := q
    have vt : vp_in (nI t) 3 := vp_in_nI ht (by omega)
    exact xw_bt0 ht (br_t rfl ⟨vt, yw_in1 (h := 2) (by omega) (by omega) (br_f (by decide) ⟨vt, rfl, hR⟩)⟩)
  · exact xw_bt1 (yw_bad (by omega) q) (br_f (by decide) (yw_in0 (h := 2) (by omega) (yw_bad (by omega) q) (br_t rfl ⟨rfl, hR⟩)))
theorem i_vc_holder {k : Nat} {u : SX} {v : SY} (I : i_Rel k u v) (hk : k + 4 ≤ 2048) (v1 : Int32) : wpX_holder (fun r => wpY_holder (fun r' => r' = r ∧ i_Rel (k + 4) u v) v v1) u v1 := by
  refine rl_el (P := fun u v => wpX_holder (fun r => wpY_holder (fun r' => r' = r ∧ i_Rel (k + 4) u v) v v1) u v1) ?_ I
  intro z D ev eo eh ck kc ep te yd kd nm bg R V H ol cu fg si tb pk yo rl sm kp tr yf n ff fo fd gf gd hF
  have hR := rl_mk (k := k + 4) (cu := cu) (fg := fg) (si := si) (tb := tb) (pk := pk) (rl := rl) (sm := sm) (kp := kp) (tr := tr) (yf := yf) (ff := ff) (fo := fo) (fd := fd) (gf := gf) (gd := gd) hF
  unfold wpX_holder wpY_holder
  dsimp only
  by_cases q : ∃ t, t < 2 ∧ v1 = nI t
  · obtain ⟨t, ht, rfl⟩ := q
    have vt : vp_in (nI t) 2 := vp_in_nI ht (by omega)
    have et : (nI t).toNatClampNeg = t := nI_clamp (by omega)
    rw [et]
    refine xw_b20 ht (br_t rfl ⟨vt, ?_⟩)
    rcases (rl_W hF).2.1 t ht with h | ⟨w, hw, h⟩
    · dsimp only at h
      rw [h]
      exact br_t rfl (yw_in1 (h := 1) (by omega) (by omega) (br_f (by decide) ⟨vt, br_f (by decide) ⟨rfl, hR⟩⟩))
    · dsimp only at h
      rw [h]
      exact br_f (fun e => mm_nIm hw e.symm) ⟨vt, yw_in1 (h := 1) (by omega) (by omega) (br_f (by decide) ⟨vt, br_t (nI_pos' (by omega)) ⟨vt, rfl, hR⟩⟩)⟩
  · exact xw_b21 (yw_bad (by omega) q) (br_f (by decide) (yw_in0 (h := 1) (by omega) (yw_bad (by omega) q) (br_t rfl ⟨rfl, hR⟩)))
end
section
/-! X: enabled, must, known, conflicts, needed, races -/
def en_r (z : Nat → Nat) (kd nm : Nat → Int32) (s : MSt) : Nat → Nat → Int32 → Int32
  | 0, _, acc => acc
  | d + 1, i, acc => en_r z kd nm s d (i + 1) (if mm_en z kd nm i s = true then acc ||| ((1 : Int32) <<< (nI i &&& 31)) else acc)
def ev_G (b : Bool) (kd nm : Nat → Int32) (ev : Nat → Nat) (n : Nat) (p0 p1 : Int32) : Prop := ∃ i j, i < n ∧ j < n ∧ p0 = nI i ∧ p1 = nI j ∧ ev_T b kd nm ev i j
/-- pairs that count -/
noncomputable def ct_i (P : Nat → Nat → Prop) (j : Nat) : Nat → Int32 := od_sum (fun i => od_if (P i j) 1)
noncomputable def ct_o (P : Nat → Nat → Prop) : Nat → Int32 := od_sum (fun j => ct_i P j j)
theorem ct_s1 {P : Nat → Nat → Prop} {i j : Nat} {A : Int32} (h : P i j) : A + ct_i P j i + 1 = A + ct_i P j (i + 1) := by
  unfold ct_i
  rw [od_sum, od_t h, Int32.add_assoc]
theorem ct_s0 {P : Nat → Nat → Prop} {i j : Nat} {A : Int32} (h : ¬ P i j) : A + ct_i P j i = A + ct_i P j (i + 1) := by
  unfold ct_i
  rw [od_sum, od_f h, Int32.add_zero]
theorem ct_z (P : Nat → Nat → Prop) (j : Nat) (A : Int32) : A + ct_i P j 0 = A := by
  unfold ct_i
  rw [od_sum, Int32.add_zero]
theorem ct_os (P : Nat → Nat → Prop) (j : Nat) : ct_o P j + ct_i P j j = ct_o P (j + 1) := rfl
theorem ct_num {P : Nat → Nat → Prop} {j : Nat} : ∀ i, i < 1000 → ∃ c, ct_i P j i = nI c ∧ c ≤ i ∧ (c = 0 ↔ ∀ k, k < i → ¬ P k j) := by
  intro i
  induction i with
  | zero => exact fun _ => ⟨0, rfl, Nat.le_refl _, fun _ k hk => absurd hk (Nat.not_lt_zero _), fun _ => rfl⟩
  | succ i ih =>
    intro hi
    obtain ⟨c, e, l, q⟩ := ih (by omega)
    by_cases h : P i j
    · refine ⟨c + 1, ?_, by omega, fun a => by omega, fun a => absurd h (a i (by omega))⟩
      unfold ct_i at e ⊢
      rw [od_sum, od_t h, e, nI_1]
    · refine ⟨c, ?_, by omega, fun a k hk => ?_, fun a => q.mpr fun k hk => a k (by omega)⟩
      · unfold ct_i at e ⊢
        rw [od_sum, od_f h, e, Int32.add_zero]
      · by_cases w : k = i
        · subst w; exact h
        · exact q.mp a k (by omega)
def ct_need (kd nm : Nat → Int32) (ev : Nat → Nat) (n i j : Nat) : Prop := ev_cf kd nm ev i j ∧ ¬ ∃ k, k < n ∧ ev_T false kd nm ev i k ∧ ev_T false kd nm ev k j
def ct_race (kd nm : Nat → Int32) (ev : Nat → Nat) (i j : Nat) : Prop := ev_cf kd nm ev i j ∧ ¬ 1 < kd (ev_o ev i) ∧ ¬ ev_T true kd nm ev i j
def ct_fr (P : Nat → Nat → Prop) (n : Nat) (r : Int32) : Prop := (∃ j, j < n ∧ (∃ i, i < j ∧ P i j) ∧ (∀ j', j' < j → ¬ ∃ i, i < j' ∧ P i j') ∧ r = nI j) ∨ ((∀ j, j < n → ¬ ∃ i, i < j ∧ P i j) ∧ r = -1000000004)
theorem ct_fr_u {P : Nat → Nat → Prop} {n : Nat} {r r' : Int32} (h : ct_fr P n r) (h' : ct_fr P n r') : r' = r := by
  rcases h with ⟨j, a, b, c, d⟩ | ⟨a, b⟩
  · rcases h' with ⟨j', a', b', c', d'⟩ | ⟨a', b'⟩
    · have : j = j' := by
        rcases Nat.lt_trichotomy j j' with w | w | w
        · exact absurd b (c' j w)
        · exact w
        · exact absurd b' (c j' w)
      subst this
      rw [d, d']
    · exact absurd b (a' j a)
  · rcases h' with ⟨j', a', b', c', d'⟩ | ⟨a', b'⟩
    · exact absurd b' (a j' a')
    · rw [b, b']
section
variable {z D ev eo eh ck kc ep te : Nat → Nat} {kd nm bg R V H ol cu fg si tb pk : Nat → Int32} {n : Nat} {fc ff fo fd : Int32}
theorem xw_enabled_4 {post : Int32 → Prop} (hP : mm_P z kd nm) (hd : ∀ t, t < 3 → D t ≤ z t) : ∀ d i acc, i + d = 3 → post (en_r z kd nm (V, R, H, D) d i acc) → wX_enabled_4 post (nI n) ff fo fd (mm_nD z) kd nm bg (mm_nD D) R V H (mm_nD ev) (mm_nD eo) (mm_nD eh) ol (mm_nD ck) (mm_nD kc) (mm_nD ep) (mm_nD te) cu fg si tb pk (d + 1) acc (nI i) := by
  intro d
  induction d with
  | zero =>
    intro i acc hi h
    have : i = 3 := by omega
    subst this
    exact br_t (show (3 : Int32) ≤ nI 3 from by decide) h
  | succ d ih =>
    intro i acc hi h
    rw [en_r] at h
    rw [wX_enabled_4]
    refine br_f (nI_ge (b := 3) (by omega) (by decide)) (xw_isEnabled (by omega) hP (hd i (by omega)) (fun e => ?_) (fun e => ?_))
    · rw [if_pos e] at h
      exact br_f (by decide) (nm_e (nm_r (nI_1 i) (ih (i + 1) _ (by omega) h)))
    · rw [if_neg (by rw [e]; decide)] at h
      exact br_t rfl (nm_r (nI_1 i) (ih (i + 1) _ (by omega) h))
theorem xw_enabled {post : Int32 → Prop} (hP : mm_P z kd nm) (hd : ∀ t, t < 3 → D t ≤ z t) (h : post (en_r z kd nm (V, R, H, D) 3 0 0)) : wpX_enabled post (nI n, ff, fo, fd, mm_nD z, kd, nm, bg, mm_nD D, R, V, H, mm_nD ev, mm_nD eo, mm_nD eh, ol, mm_nD ck, mm_nD kc, mm_nD ep, mm_nD te, cu, fg, si, tb, pk) :=
  ⟨4, xw_enabled_4 hP hd 3 0 0 rfl h⟩
theorem xw_ne0 {post : Int32 → Prop} {i : Nat} (hn : n ≤ 8) (hi : i < n) (h : post 0) : wpX_noEvent post (nI n, ff, fo, fd, mm_nD z, kd, nm, bg, mm_nD D, R, V, H, mm_nD ev, mm_nD eo, mm_nD eh, ol, mm_nD ck, mm_nD kc, mm_nD ep, mm_nD te, cu, fg, si, tb, pk) (nI i) :=
  br_f (nI_pos (by omega)) (br_t (nI_lt hi (by omega)) h)
theorem xw_ne1 {post : Int32 → Prop} {p : Int32} (hn : n ≤ 8) (hp : ¬ ∃ i, i < n ∧ p = nI i) (h : post 1) : wpX_noEvent post (nI n, ff, fo, fd, mm_nD z, kd, nm, bg, mm_nD D, R, V, H, mm_nD ev, mm_nD eo, mm_nD eh, ol, mm_nD ck, mm_nD kc, mm_nD ep, mm_nD te, cu, fg, si, tb, pk) p := by
  refine br_c (fun _ => h) (fun a => br_f (fun b => ?_) h)
  rcases yw_bad (N := n) (by omega) hp with c | c
  · exact a c
  · exact Int32.not_lt.mpr c b
theorem xw_isBefore {post : Int32 → Prop} {i j : Nat} (hE : rl_E ev eo ep te n) (hC : ev_C false kd nm ev n ck) (hi : i < n) (hj : j < n) (h1 : ev_T false kd nm ev i j → post 1) (h0 : ¬ ev_T false kd nm ev i j → post 0) : wpX_isBefore post (nI n, ff, fo, fd, mm_nD z, kd, nm, bg, mm_nD D, R, V, H, mm_nD ev, mm_nD eo, mm_nD eh, ol, mm_nD ck, mm_nD kc, mm_nD ep, mm_nD te, cu, fg, si, tb, pk) (nI i) (nI j) := by
  have h8 := hE.1
  have ei : (nI i).toNatClampNeg = i := nI_clamp (by omega)
  have vi : vp_in (nI i) 12 := vp_in_nI (by omega) (by omega)
  have ti := (hE.2 i hi).1
  have pi := (hE.2 i hi).2.2.1
  have p4 := (hE.2 i hi).2.2.2.2
  have e3 : (nI (3 * j + ev i)).toNatClampNeg = 3 * j + ev i := nI_clamp (by omega)
  have v3 : vp_in (nI (3 * j + ev i)) 36 := vp_in_nI (by omega) (by omega)
  have eq := nI_eq (a := i) (b := j) (by omega) (by omega)
  have cl := ev_C_le hC hj ti
  have le := nI_leI (a := ck (3 * j + ev i)) (b := ev_c ev (ev i) i) (by omega) (by omega)
  simp only [wpX_isBefore, forall_eq, mm_nDa, true_and, and_true, true_implies, false_implies, not_false_eq_true, not_true_eq_false, mm_i10, eq_self, ei, vi, mm_3, e3, v3, eq, pi, le]
  refine br_c (fun a => h0 fun t => ?_) (fun a => ?_)
  · subst a; exact Nat.lt_irrefl _ (ev_T_lt t)
  · have b := ev_C_bef hC hj ti a
    exact br_c (fun c => h0 fun t => by have := b.mpr t; omega) (fun c => h1 (b.mp (by omega)))
theorem xw_isKnown {post : Int32 → Prop} {i j : Nat} (hE : rl_E ev eo ep te n) (hC : ev_C true kd nm ev n kc) (hi : i < n) (hj : j < n) (h1 : ev_T true kd nm ev i j → post 1) (h0 : ¬ ev_T true kd nm ev i j → post 0) : wpX_isKnown post (nI n, ff, fo, fd, mm_nD z, kd, nm, bg, mm_nD D, R, V, H, mm_nD ev, mm_nD eo, mm_nD eh, ol, mm_nD ck, mm_nD kc, mm_nD ep, mm_nD te, cu, fg, si, tb, pk) (nI i) (nI j) := by
  have h8 := hE.1
  have ei : (nI i).toNatClampNeg = i := nI_clamp (by omega)
  have vi : vp_in (nI i) 12 := vp_in_nI (by omega) (by omega)
  have ti := (hE.2 i hi).1
  have pi := (hE.2 i hi).2.2.1
  have p4 := (hE.2 i hi).2.2.2.2
  have e3 : (nI (3 * j + ev i)).toNatClampNeg = 3 * j + ev i := nI_clamp (by omega)
  have v3 : vp_in (nI (3 * j + ev i)) 36 := vp_in_nI (by omega) (by omega)
  have eq := nI_eq (a := i) (b := j) (by omega) (by omega)
  have cl := ev_C_le hC hj ti
  have le := nI_leI (a := kc (3 * j + ev i)) (b := ev_c ev (ev i) i) (by omega) (by omega)
  simp only [wpX_isKnown, forall_eq, mm_nDa, true_and, and_true, true_implies, false_implies, not_false_eq_true, not_true_eq_false, mm_i10, eq_self, ei, vi, mm_3, e3, v3, eq, pi, le]
  refine br_c (fun a => h0 fun t => ?_) (fun a => ?_)
  · subst a; exact Nat.lt_irrefl _ (ev_T_lt t)
  · have b := ev_C_bef hC hj ti a
    exact br_c (fun c => h0 fun t => by have := b.mpr t; omega) (fun c => h1 (b.mp (by omega)))
theorem xw_must {post : Int32 → Prop} {p0 p1 : Int32} (hE : rl_E ev eo ep te n) (hC : ev_C false kd nm ev n ck) (h1 : ev_G false kd nm ev n p0 p1 → post 1) (h0 : ¬ ev_G false kd nm ev n p0 p1 → post 0) : wpX_must post (nI n, ff, fo, fd, mm_nD z, kd, nm, bg, mm_nD D, R, V, H, mm_nD ev, mm_nD eo, mm_nD eh, ol, mm_nD ck, mm_nD kc, mm_nD ep, mm_nD te, cu, fg, si, tb, pk) p0 p1 := by
  unfold wpX_must
  dsimp only
  by_cases a : ∃ i, i < n ∧ p0 = nI i
  · obtain ⟨i, hi, rfl⟩ := a
    refine xw_ne0 hE.1 hi (br_t rfl ?_)
    by_cases b : ∃ j, j < n ∧ p1 = nI j
    · obtain ⟨j, hj, rfl⟩ := b
      refine xw_ne0 hE.1 hj (br_t rfl (xw_isBefore hE hC hi hj (fun t => br_f (by decide) (h1 ⟨i, j, hi, hj, rfl, rfl, t⟩)) (fun t => br_t rfl (h0 ?_))))
      rintro ⟨i', j', hi', hj', e, e', t'⟩
      have h8 := hE.1
      have a1 := (nI_eq (by omega) (by omega)).mp e
      have a2 := (nI_eq (by omega) (by omega)).mp e'
      subst a1 a2
      exact t t'
    · exact xw_ne1 hE.1 b (br_f (by decide) (h0 fun ⟨i', j', hi', hj', e, e', t'⟩ => b ⟨j', hj', e'⟩))
  · exact xw_ne1 hE.1 a (br_f (by decide) (h0 fun ⟨i', j', hi', hj', e, e', t'⟩ => a ⟨i', hi', e⟩))
theorem xw_known {post : Int32 → Prop} {p0 p1 : Int32} (hE : rl_E ev eo ep te n) (hC : ev_C true kd nm ev n kc) (h1 : ev_G true kd nm ev n p0 p1 → post 1) (h0 : ¬ ev_G true kd nm ev n p0 p1 → post 0) : wpX_known post (nI n, ff, fo, fd, mm_nD z, kd, nm, bg, mm_nD D, R, V, H, mm_nD ev, mm_nD eo, mm_nD eh, ol, mm_nD ck, mm_nD kc, mm_nD ep, mm_nD te, cu, fg, si, tb, pk) p0 p1 := by
  unfold wpX_known
  dsimp only
  by_cases a : ∃ i, i < n ∧ p0 = nI i
  · obtain ⟨i, hi, rfl⟩ := a
    refine xw_ne0 hE.1 hi (br_t rfl ?_)
    by_cases b : ∃ j, j < n ∧ p1 = nI j
    · obtain ⟨j, hj, rfl⟩ := b
      refine xw_ne0 hE.1 hj (br_t rfl (xw_isKnown hE hC hi hj (fun t => br_f (by decide) (h1 ⟨i, j, hi, hj, rfl, rfl, t⟩)) (fun t => br_t rfl (h0 ?_))))
      rintro ⟨i', j', hi', hj', e, e', t'⟩
      have h8 := hE.1
      have a1 := (nI_eq (by omega) (by omega)).mp e
      have a2 := (nI_eq (by omega) (by omega)).mp e'
      subst a1 a2
      exact t t'
    · exact xw_ne1 hE.1 b (br_f (by decide) (h0 fun ⟨i', j', hi', hj', e, e', t'⟩ => b ⟨j', hj', e'⟩))
  · exact xw_ne1 hE.1 a (br_f (by decide) (h0 fun ⟨i', j', hi', hj', e, e', t'⟩ => a ⟨i', hi', e⟩))
theorem xw_conflicts_14 {post : Int32 → Prop} {J : Int32 → Int32 → Prop} {j : Nat} {A : Int32} (hE : rl_E ev eo ep te n) (hj : j < n) (hJ : J (A + ct_i (ev_cf kd nm ev) j j) (nI (j + 1))) :
    ∀ d i acc, i + d = j → acc = A + ct_i (ev_cf kd nm ev) j i → wX_conflicts_14 post J (nI j) (nI n) ff fo fd (mm_nD z) kd nm bg (mm_nD D) R V H (mm_nD ev) (mm_nD eo) (mm_nD eh) ol (mm_nD ck) (mm_nD kc) (mm_nD ep) (mm_nD te) cu fg si tb pk (d + 1) acc (nI i) := by
  have h8 := hE.1
  intro d
  induction d with
  | zero =>
    intro i acc hi e
    have : i = j := by omega
    subst this
    rw [e]
    exact br_t (nI_le (Nat.le_refl _) (by omega)) (nm_r (nI_1 i) hJ)
  | succ d ih =>
    intro i acc hi e
    rw [wX_conflicts_14]
    refine br_f (nI_ge (by omega) (by omega)) (xw_conflict hE (by omega) hj (fun c => ?_) (fun c => ?_))
    · exact br_f (by decide) (nm_e (nm_r (nI_1 i) (ih (i + 1) _ (by omega) (by rw [e, ct_s1 c]))))
    · exact br_t rfl (nm_r (nI_1 i) (ih (i + 1) _ (by omega) (by rw [e, ct_s0 c])))
theorem xw_conflicts {post : Int32 → Prop} (hE : rl_E ev eo ep te n) (h : post (ct_o (ev_cf kd nm ev) n)) : wpX_conflicts post (nI n, ff, fo, fd, mm_nD z, kd, nm, bg, mm_nD D, R, V, H, mm_nD ev, mm_nD eo, mm_nD eh, ol, mm_nD ck, mm_nD kc, mm_nD ep, mm_nD te, cu, fg, si, tb, pk) := by
  have h8 := hE.1
  have key : ∀ d j, j + d = n → wX_conflicts_4 post (nI n) ff fo fd (mm_nD z) kd nm bg (mm_nD D) R V H (mm_nD ev) (mm_nD eo) (mm_nD eh) ol (mm_nD ck) (mm_nD kc) (mm_nD ep) (mm_nD te) cu fg si tb pk (d + 1) (ct_o (ev_cf kd nm ev) j) (nI j) := by
    intro d
    induction d with
    | zero =>
      intro j hj
      have : j = n := by omega
      subst this
      exact br_t (nI_le (Nat.le_refl _) (by omega)) h
    | succ d ih =>
      intro j hj
      rw [wX_conflicts_4]
      refine br_f (nI_ge (by omega) (by omega)) ⟨j + 1, ?_⟩
      refine xw_conflicts_14 (A := ct_o (ev_cf kd nm ev) j) hE (by omega) ?_ j 0 _ (by omega) (ct_z _ _ _).symm
      rw [ct_os]
      exact ih (j + 1) (by omega)
  exact ⟨n + 1, key n 0 (by omega)⟩
/-! needed -/
theorem ev_C_own {b : Bool} {c : Nat → Nat} (hC : ev_C b kd nm ev n c) {j : Nat} (hj : j < n) (ht : ev j < 3) : c (3 * j + ev j) = ev_c ev (ev j) j + 1 := by
  have a := (hC j hj (ev j) ht (ev_c ev (ev j) j)).mpr ⟨j, Nat.le_refl _, rfl, rfl, Or.inl rfl⟩
  apply Nat.le_antisymm _ a
  apply Nat.le_of_not_lt
  intro q
  obtain ⟨i, l, e, f, _⟩ := (hC j hj (ev j) ht (ev_c ev (ev j) j + 1)).mp q
  have := ev_c_mono (ev := ev) (t := ev j) l
  omega
theorem xw_isNeeded_33 {post : Int32 → Prop} {i j : Nat} (hE : rl_E ev eo ep te n) (hC : ev_C false kd nm ev n ck) (hij : i < j) (hj : j < n) (hne : ev i ≠ ev j) (hq : ck (3 * j + ev i) = ev_c ev (ev i) i + 1)
    (h1 : (¬ ∃ k, k < n ∧ ev_T false kd nm ev i k ∧ ev_T false kd nm ev k j) → post 1) (h0 : (∃ k, k < n ∧ ev_T false kd nm ev i k ∧ ev_T false kd nm ev k j) → post 0) :
    ∀ d u, u + d = 3 → (∀ k, k < n → ev k < u → ¬ (ev_T false kd nm ev i k ∧ ev_T false kd nm ev k j)) → wX_isNeeded_33 post (nI i) (nI j) (nI (ev i)) (nI n) ff fo fd (mm_nD z) kd nm bg (mm_nD D) R V H (mm_nD ev) (mm_nD eo) (mm_nD eh) ol (mm_nD ck) (mm_nD kc) (mm_nD ep) (mm_nD te) cu fg si tb pk (d + 1) (nI u) := by
  have h8 := hE.1
  have ti := (hE.2 i (by omega)).1
  have tj := (hE.2 j hj).1
  have pi := (hE.2 i (by omega)).2.2.1
  have ej : (nI j).toNatClampNeg = j := nI_clamp (by omega)
  have ei : (nI i).toNatClampNeg = i := nI_clamp (by omega)
  have vj : vp_in (nI j) 12 := vp_in_nI (by omega) (by omega)
  have vi : vp_in (nI i) 12 := vp_in_nI (by omega) (by omega)
  have p4i := (hE.2 i (by omega)).2.2.2.2
  intro d
  induction d with
  | zero =>
    intro u hu hI
    have : u = 3 := by omega
    subst this
    exact br_t (show (3 : Int32) ≤ nI 3 from by decide) (h1 fun ⟨k, hk, a, b⟩ => hI k hk (hE.2 k hk).1 ⟨a, b⟩)
  | succ d ih =>
    intro u hu hI
    have e3 : (nI (3 * j + u)).toNatClampNeg = 3 * j + u := nI_clamp (by omega)
    have v3 : vp_in (nI (3 * j + u)) 36 := vp_in_nI (by omega) (by omega)
    have cl := ev_C_le hC (t := u) hj (by omega)
    have hnext : (∀ k, k < n → ev k = u → ¬ (ev_T false kd nm ev i k ∧ ev_T false kd nm ev k j)) → wX_isNeeded_33 post (nI i) (nI j) (nI (ev i)) (nI n) ff fo fd (mm_nD z) kd nm bg (mm_nD D) R V H (mm_nD ev) (mm_nD eo) (mm_nD eh) ol (mm_nD ck) (mm_nD kc) (mm_nD ep) (mm_nD te) cu fg si tb pk (d + 1) (nI (u + 1)) := fun hh =>
      ih (u + 1) (by omega) (fun k hk hl => by
        by_cases w : ev k = u
        · exact hh k hk w
        · exact hI k hk (by omega))
    /- the number of u's events strictly before j -/
    have h72 : ∀ sn : Nat, sn ≤ 8 → (∀ k, k < n → ev k = u → (ev_T false kd nm ev k j ↔ ev_c ev u k < sn)) → (∀ p, p < sn → ∃ k, k < n ∧ ev k = u ∧ ev_c ev u k = p) →
        wX_isNeeded_72 post (wX_isNeeded_33 post (nI i) (nI j) (nI (ev i)) (nI n) ff fo fd (mm_nD z) kd nm bg (mm_nD D) R V H (mm_nD ev) (mm_nD eo) (mm_nD eh) ol (mm_nD ck) (mm_nD kc) (mm_nD ep) (mm_nD te) cu fg si tb pk (d + 1)) (nI i) (nI j) (nI (ev i)) (nI u) (nI sn) (nI n) ff fo fd (mm_nD z) kd nm bg (mm_nD D) R V H (mm_nD ev) (mm_nD eo) (mm_nD eh) ol (mm_nD ck) (mm_nD kc) (mm_nD ep) (mm_nD te) cu fg si tb pk := by
      intro sn hs hT hX
      have equ := nI_eq (a := u) (b := ev i) (by omega) (by omega)
      unfold wX_isNeeded_72
      rw [equ]
      refine br_c (fun a => nm_r (nI_1 u) (hnext fun k hk he hh => ?_)) (fun a => ?_)
      · have hp := (hC j hj (ev i) ti (ev_c ev (ev i) k)).mpr ⟨k, Nat.le_of_lt (ev_T_lt hh.2), by omega, rfl, Or.inr hh.2⟩
        have := ev_c_lt (ev := ev) (t := ev i) (ev_T_lt hh.1) rfl
        omega
      · refine pk_le sn 0 (fun b => nm_r (nI_1 u) (hnext fun k hk he hh => ?_)) (fun b => ?_)
        · have := (hT k hk he).mp hh.2
          omega
        · obtain ⟨e, he, het, hep⟩ := hX (sn - 1) (by omega)
          have Ee := hE.2 e he
          have eo1 : (4 : Int32) * nI u + nI sn - 1 = nI (4 * u + (sn - 1)) := by
            obtain ⟨w, rfl⟩ : ∃ w, sn = w + 1 := ⟨sn - 1, by omega⟩
            rw [mm_4, show 4 * u + (w + 1) = (4 * u + w) + 1 from by omega, nI_pred]
            rfl
          have eo2 : 4 * u + (sn - 1) = ev_o ev e := by unfold ev_o; rw [het, hep]
          have o12 := rl_o12 hE he
          rw [eo1, eo2]
          have c1 : (nI (ev_o ev e)).toNatClampNeg = ev_o ev e := nI_clamp (by omega)
          have v1 : vp_in (nI (ev_o ev e)) 12 := vp_in_nI o12 (by omega)
          have e4 : (nI (3 * e + ev i)).toNatClampNeg = 3 * e + ev i := nI_clamp (by omega)
          have v4 : vp_in (nI (3 * e + ev i)) 36 := vp_in_nI (by omega) (by omega)
          have cle := ev_C_le hC (t := ev i) he ti
          have le := nI_leI (a := ck (3 * e + ev i)) (b := ev_c ev (ev i) i) (by omega) (by omega)
          have hie : i ≠ e := fun w => a (by rw [w, het])
          have bef := ev_C_bef hC he ti hie
          simp only [forall_eq, mm_nDa, true_and, and_true, true_implies, false_implies, not_false_eq_true, not_true_eq_false, mm_i10, eq_self, c1, v1, Ee.2.2.2.1, mm_3, e4, v4, ei, vi, pi, le, nI_1]
          have hej : ev_T false kd nm ev e j := (hT e he het).mpr (by omega)
          refine br_c (fun c => hnext fun k hk hk2 hh => ?_) (fun c => h0 ⟨e, he, bef.mp (by omega), hej⟩)
          have lk := (hT k hk hk2).mp hh.2
          have hni : ¬ ev_T false kd nm ev i e := fun t => by have := bef.mpr t; omega
          apply hni
          by_cases w : k = e
          · subst w; exact hh.1
          · have hke : k < e := by
              apply Nat.lt_of_not_le
              intro w2
              have w3 : e < k := by omega
              have := ev_c_lt (ev := ev) (t := u) w3 het
              omega
            exact ev_T_t hh.1 (ev_T_s ⟨hke, Or.inl (hk2.trans het.symm)⟩)
    rw [wX_isNeeded_33]
    have equj := nI_eq (a := u) (b := ev j) (by omega) (by omega)
    simp only [forall_eq, mm_nDa, true_and, and_true, true_implies, false_implies, not_false_eq_true, not_true_eq_false, mm_i10, eq_self, mm_3, e3, v3, ej, vj, equj]
    refine br_f (nI_ge (b := 3) (by omega) (by decide)) (br_c (fun a => ?_) (fun a => ?_))
    · subst a
      have own := ev_C_own hC hj tj
      rw [own, nI_pred]
      have p4 := (hE.2 j hj).2.2.2.2
      refine h72 _ (by omega) (fun k hk he => ⟨fun t => ?_, fun t => ?_⟩) (fun p hp => ?_)
      · exact ev_c_lt (ev_T_lt t) he
      · have hkj : k < j := by
          apply Nat.lt_of_not_le
          intro w
          have := ev_c_mono (ev := ev) (t := ev j) w
          omega
        exact ev_T_s ⟨hkj, Or.inl he⟩
      · obtain ⟨k, a, b, c⟩ := ev_c_ex hp
        exact ⟨k, by omega, b, c⟩
    · refine h72 _ (by omega) (fun k hk he => ?_) (fun p hp => ?_)
      · have := ev_C_bef hC (i := k) hj (hE.2 k hk).1 (fun w => a (by rw [← he, w]))
        rw [he] at this
        exact this.symm
      · obtain ⟨k, l, b, c, _⟩ := (hC j hj u (by omega) p).mp hp
        exact ⟨k, by omega, b, c⟩
theorem xw_isNeeded {post : Int32 → Prop} {i j : Nat} (hE : rl_E ev eo ep te n) (hC : ev_C false kd nm ev n ck) (hij : i < j) (hj : j < n) (hcf : ev_cf kd nm ev i j)
    (h1 : (¬ ∃ k, k < n ∧ ev_T false kd nm ev i k ∧ ev_T false kd nm ev k j) → post 1) (h0 : (∃ k, k < n ∧ ev_T false kd nm ev i k ∧ ev_T false kd nm ev k j) → post 0) : wpX_isNeeded post (nI n, ff, fo, fd, mm_nD z, kd, nm, bg, mm_nD D, R, V, H, mm_nD ev, mm_nD eo, mm_nD eh, ol, mm_nD ck, mm_nD kc, mm_nD ep, mm_nD te, cu, fg, si, tb, pk) (nI i) (nI j) := by
  have h8 := hE.1
  have ti := (hE.2 i (by omega)).1
  have pi := (hE.2 i (by omega)).2.2.1
  have ei : (nI i).toNatClampNeg = i := nI_clamp (by omega)
  have vi : vp_in (nI i) 12 := vp_in_nI (by omega) (by omega)
  have e3 : (nI (3 * j + ev i)).toNatClampNeg = 3 * j + ev i := nI_clamp (by omega)
  have v3 : vp_in (nI (3 * j + ev i)) 36 := vp_in_nI (by omega) (by omega)
  have cl := ev_C_le hC hj ti
  have p4 := (hE.2 i (by omega)).2.2.2.2
  have eq := nI_eq (a := ck (3 * j + ev i)) (b := ev_c ev (ev i) i + 1) (by omega) (by omega)
  have hT : ev_T false kd nm ev i j := ev_T_s ⟨hij, Or.inr hcf⟩
  have hb := (ev_C_bef hC hj ti (by omega)).mpr hT
  simp only [wpX_isNeeded, forall_eq, mm_nDa, true_and, and_true, true_implies, false_implies, not_false_eq_true, not_true_eq_false, mm_i10, eq_self, ei, vi, mm_3, e3, v3, pi, nI_1, eq]
  refine br_c (fun a => ⟨4, xw_isNeeded_33 hE hC hij hj hcf.1 a h1 h0 3 0 rfl (fun k _ hl => absurd hl (Nat.not_lt_zero _))⟩) (fun a => h0 ?_)
  obtain ⟨k, l, e, f, g⟩ := (hC j hj (ev i) ti (ev_c ev (ev i) i + 1)).mp (by omega)
  have hkj : ev_T false kd nm ev k j := g.resolve_left (fun w => hcf.1 (by rw [← e, w]))
  have hik : i < k := by
    apply Nat.lt_of_not_le
    intro w
    have := ev_c_mono (ev := ev) (t := ev i) w
    omega
  exact ⟨k, by have := ev_T_lt hkj; omega, ev_T_s ⟨hik, Or.inl e.symm⟩, hkj⟩
theorem xw_needed_14 {post : Int32 → Prop} {J : Int32 → Int32 → Prop} {j : Nat} {A : Int32} (hE : rl_E ev eo ep te n) (hC : ev_C false kd nm ev n ck) (hj : j < n) (hJ : J (A + ct_i (ct_need kd nm ev n) j j) (nI (j + 1))) :
    ∀ d i acc, i + d = j → acc = A + ct_i (ct_need kd nm ev n) j i → wX_needed_14 post J (nI j) (nI n) ff fo fd (mm_nD z) kd nm bg (mm_nD D) R V H (mm_nD ev) (mm_nD eo) (mm_nD eh) ol (mm_nD ck) (mm_nD kc) (mm_nD ep) (mm_nD te) cu fg si tb pk (d + 1) acc (nI i) := by
  have h8 := hE.1
  intro d
  induction d with
  | zero =>
    intro i acc hi e
    have : i = j := by omega
    subst this
    rw [e]
    exact br_t (nI_le (Nat.le_refl _) (by omega)) (nm_r (nI_1 i) hJ)
  | succ d ih =>
    intro i acc hi e
    have h41 : ¬ ct_need kd nm ev n i j → wX_needed_41 post J (wX_needed_14 post J (nI j) (nI n) ff fo fd (mm_nD z) kd nm bg (mm_nD D) R V H (mm_nD ev) (mm_nD eo) (mm_nD eh) ol (mm_nD ck) (mm_nD kc) (mm_nD ep) (mm_nD te) cu fg si tb pk (d + 1)) acc (nI j) (nI i) (nI n) ff fo fd (mm_nD z) kd nm bg (mm_nD D) R V H (mm_nD ev) (mm_nD eo) (mm_nD eh) ol (mm_nD ck) (mm_nD kc) (mm_nD ep) (mm_nD te) cu fg si tb pk := fun q => by
      unfold wX_needed_41 wX_needed_42
      exact br_t rfl (nm_r (nI_1 i) (ih (i + 1) _ (by omega) (by rw [e, ct_s0 q])))
    rw [wX_needed_14]
    refine br_f (nI_ge (by omega) (by omega)) (xw_conflict hE (by omega) hj (fun c => ?_) (fun c => ?_))
    · refine br_f (by decide) (xw_isNeeded hE hC (by omega) hj c (fun q => ?_) (fun q => ?_))
      · refine br_f (by decide) ?_
        unfold wX_needed_42
        exact br_f (by decide) (nm_e (nm_r (nI_1 i) (ih (i + 1) _ (by omega) (by rw [e, ct_s1 (P := ct_need kd nm ev n) ⟨c, q⟩]))))
      · exact br_t rfl (h41 fun w => w.2 q)
    · exact br_t rfl (h41 fun w => c w.1)
theorem xw_needed {post : Int32 → Prop} (hE : rl_E ev eo ep te n) (hC : ev_C false kd nm ev n ck) (h : post (ct_o (ct_need kd nm ev n) n)) : wpX_needed post (nI n, ff, fo, fd, mm_nD z, kd, nm, bg, mm_nD D, R, V, H, mm_nD ev, mm_nD eo, mm_nD eh, ol, mm_nD ck, mm_nD kc, mm_nD ep, mm_nD te, cu, fg, si, tb, pk) := by
  have h8 := hE.1
  have key : ∀ d j, j + d = n → wX_needed_4 post (nI n) ff fo fd (mm_nD z) kd nm bg (mm_nD D) R V H (mm_nD ev) (mm_nD eo) (mm_nD eh) ol (mm_nD ck) (mm_nD kc) (mm_nD ep) (mm_nD te) cu fg si tb pk (d + 1) (ct_o (ct_need kd nm ev n) j) (nI j) := by
    intro d
    induction d with
    | zero =>
      intro j hj
      have : j = n := by omega
      subst this
      exact br_t (nI_le (Nat.le_refl _) (by omega)) h
    | succ d ih =>
      intro j hj
      rw [wX_needed_4]
      refine br_f (nI_ge (by omega) (by omega)) ⟨j + 1, ?_⟩
      refine xw_needed_14 (A := ct_o (ct_need kd nm ev n) j) hE hC (by omega) ?_ j 0 _ (by omega) (ct_z _ _ _).symm
      rw [ct_os]
      exact ih (j + 1) (by omega)
  exact ⟨n + 1, key n 0 (by omega)⟩
/-! races -/
theorem xw_isRace {post : Int32 → Prop} {i j : Nat} (hE : rl_E ev eo ep te n) (hC : ev_C true kd nm ev n kc) (hi : i < n) (hj : j < n) (h1 : ct_race kd nm ev i j → post 1) (h0 : ¬ ct_race kd nm ev i j → post 0) : wpX_isRace post (nI n, ff, fo, fd, mm_nD z, kd, nm, bg, mm_nD D, R, V, H, mm_nD ev, mm_nD eo, mm_nD eh, ol, mm_nD ck, mm_nD kc, mm_nD ep, mm_nD te, cu, fg, si, tb, pk) (nI i) (nI j) := by
  have h8 := hE.1
  have ei : (nI i).toNatClampNeg = i := nI_clamp (by omega)
  have vi : vp_in (nI i) 12 := vp_in_nI (by omega) (by omega)
  have oi := (hE.2 i hi).2.1
  have li := rl_o12 hE hi
  have ea : (nI (ev_o ev i)).toNatClampNeg = ev_o ev i := nI_clamp (by omega)
  have va : vp_in (nI (ev_o ev i)) 12 := vp_in_nI li (by omega)
  unfold wpX_isRace
  dsimp only
  refine xw_conflict hE hi hj (fun c => br_f (by decide) (And.intro vi ?_)) (fun c => br_t rfl (h0 fun w => c w.1))
  simp only [wpX_isAccess, forall_eq, mm_nDa, true_and, and_true, true_implies, false_implies, not_false_eq_true, not_true_eq_false, mm_i10, eq_self, ei, oi, ea, va]
  refine br_c (fun a => h0 fun w => w.2.1 a) (fun a => xw_isKnown hE hC hi hj (fun t => br_f (by decide) (h0 fun w => w.2.2 t)) (fun t => br_t rfl (h1 ⟨c, a, t⟩)))
theorem xw_racesWith {post : Int32 → Prop} {j : Nat} (hE : rl_E ev eo ep te n) (hC : ev_C true kd nm ev n kc) (hj : j < n) (h : post (ct_i (ct_race kd nm ev) j j)) : wpX_racesWith post (nI n, ff, fo, fd, mm_nD z, kd, nm, bg, mm_nD D, R, V, H, mm_nD ev, mm_nD eo, mm_nD eh, ol, mm_nD ck, mm_nD kc, mm_nD ep, mm_nD te, cu, fg, si, tb, pk) (nI j) := by
  have h8 := hE.1
  have key : ∀ d i acc, i + d = j → acc = 0 + ct_i (ct_race kd nm ev) j i → wX_racesWith_4 post (nI j) (nI n) ff fo fd (mm_nD z) kd nm bg (mm_nD D) R V H (mm_nD ev) (mm_nD eo) (mm_nD eh) ol (mm_nD ck) (mm_nD kc) (mm_nD ep) (mm_nD te) cu fg si tb pk (d + 1) acc (nI i) := by
    intro d
    induction d with
    | zero =>
      intro i acc hi e
      have : i = j := by omega
      subst this
      rw [e, Int32.zero_add]
      exact br_t (nI_le (Nat.le_refl _) (by omega)) h
    | succ d ih =>
      intro i acc hi e
      rw [wX_racesWith_4]
      refine br_f (nI_ge (by omega) (by omega)) (xw_isRace hE hC (by omega) hj (fun c => ?_) (fun c => ?_))
      · exact br_f (by decide) (nm_e (nm_r (nI_1 i) (ih (i + 1) _ (by omega) (by rw [e, ct_s1 c]))))
      · exact br_t rfl (nm_r (nI_1 i) (ih (i + 1) _ (by omega) (by rw [e, ct_s0 c])))
  exact ⟨j + 1, key j 0 0 (by omega) (ct_z _ _ _).symm⟩
theorem xw_races {post : Int32 → Prop} (hE : rl_E ev eo ep te n) (hC : ev_C true kd nm ev n kc) (h : post (ct_o (ct_race kd nm ev) n)) : wpX_races post (nI n, ff, fo, fd, mm_nD z, kd, nm, bg, mm_nD D, R, V, H, mm_nD ev, mm_nD eo, mm_nD eh, ol, mm_nD ck, mm_nD kc, mm_nD ep, mm_nD te, cu, fg, si, tb, pk) := by
  have h8 := hE.1
  have key : ∀ d j, j + d = n → wX_races_4 post (nI n) ff fo fd (mm_nD z) kd nm bg (mm_nD D) R V H (mm_nD ev) (mm_nD eo) (mm_nD eh) ol (mm_nD ck) (mm_nD kc) (mm_nD ep) (mm_nD te) cu fg si tb pk (d + 1) (ct_o (ct_race kd nm ev) j) (nI j) := by
    intro d
    induction d with
    | zero =>
      intro j hj
      have : j = n := by omega
      subst this
      exact br_t (nI_le (Nat.le_refl _) (by omega)) h
    | succ d ih =>
      intro j hj
      rw [wX_races_4]
      refine br_f (nI_ge (by omega) (by omega)) (xw_racesWith hE hC (by omega) (nm_r (ct_os _ _) (nm_r (nI_1 j) ?_)))
      exact ih (j + 1) (by omega)
  exact ⟨n + 1, key n 0 (by omega)⟩
theorem xw_firstRace {post : Int32 → Prop} (hE : rl_E ev eo ep te n) (hC : ev_C true kd nm ev n kc) (h : ∀ r, ct_fr (ct_race kd nm ev) n r → post r) : wpX_firstRace post (nI n, ff, fo, fd, mm_nD z, kd, nm, bg, mm_nD D, R, V, H, mm_nD ev, mm_nD eo, mm_nD eh, ol, mm_nD ck, mm_nD kc, mm_nD ep, mm_nD te, cu, fg, si, tb, pk) := by
  have h8 := hE.1
  have key : ∀ d j, j + d = n → (∀ j', j' < j → ¬ ∃ i, i < j' ∧ ct_race kd nm ev i j') → wX_firstRace_2 post (nI n) ff fo fd (mm_nD z) kd nm bg (mm_nD D) R V H (mm_nD ev) (mm_nD eo) (mm_nD eh) ol (mm_nD ck) (mm_nD kc) (mm_nD ep) (mm_nD te) cu fg si tb pk (d + 1) (nI j) := by
    intro d
    induction d with
    | zero =>
      intro j hj hI
      have : j = n := by omega
      subst this
      exact br_t (nI_le (Nat.le_refl _) (by omega)) (h _ (Or.inr ⟨hI, rfl⟩))
    | succ d ih =>
      intro j hj hI
      rw [wX_firstRace_2]
      refine br_f (nI_ge (by omega) (by omega)) (xw_racesWith hE hC (by omega) ?_)
      obtain ⟨c, e, l, q⟩ := ct_num (P := ct_race kd nm ev) (j := j) j (by omega)
      rw [e]
      refine pk_le c 0 (fun a => nm_r (nI_1 j) (ih (j + 1) (by omega) (fun j' hj' => ?_))) (fun a => h _ (Or.inl ⟨j, by omega, ?_, hI, rfl⟩))
      · by_cases w : j' = j
        · subst w
          rintro ⟨i, hi, hr⟩
          exact q.mp (by omega) i hi hr
        · exact hI j' (by omega)
      · apply Classical.byContradiction
        intro w
        have := q.mpr (fun k hk hr => w ⟨k, hk, hr⟩)
        omega
  exact ⟨n + 1, key n 0 (by omega) (fun j' hj' => absurd hj' (Nat.not_lt_zero _))⟩
end
end
section
/-! Y: enabled, must, known, conflicts, needed, races -/
theorem mm_8 (t d : Nat) : (8 : Int32) * nI t + nI d = nI (8 * t + d) := by
  rw [show (8 : Int32) = nI 8 from rfl, pk_mul, nI_add]
/-- Y's relation array holds the closure -/
def rl_R (b : Bool) (kd nm : Nat → Int32) (ev : Nat → Nat) (n : Nat) (rl : Nat → Int32) : Prop := ∀ i j, i < 8 → j < 8 → wa_b (rl (8 * i + j)) (ev_T b kd nm ev i j ∧ j < n)
section
variable {z D yd ev : Nat → Nat} {kd nm bg R V H yo rl sm kp tr yf : Nat → Int32} {n : Nat} {gc gf gd : Int32}
theorem rl_R0 {b : Bool} (h : rl_R b kd nm ev n rl) {i j : Nat} (hi : i < 8) (hj : j < n) (h8 : n ≤ 8) (e : rl (8 * i + j) = 0) : ¬ ev_T b kd nm ev i j :=
  fun t => wa_b0 (h i j hi (by omega)) e ⟨t, hj⟩
theorem rl_R1 {b : Bool} (h : rl_R b kd nm ev n rl) {i j : Nat} (hi : i < 8) (hj : j < 8) (e : ¬ rl (8 * i + j) = 0) : ev_T b kd nm ev i j :=
  (wa_b1 (h i j hi hj) e).1
theorem yw_enabled_4 {post : Int32 → Prop} (hP : mm_P z kd nm) (hd : ∀ t, t < 3 → D t ≤ z t) : ∀ d i acc, i + d = 3 → post (en_r z kd nm (V, R, H, D) d i acc) → wY_enabled_4 post (nI n) gf gd kd nm (mm_nD z) bg V R H (mm_nD D) (mm_nD yd) yo rl sm kp tr yf (d + 1) acc (nI i) := by
  intro d
  induction d with
  | zero =>
    intro i acc hi h
    have : i = 3 := by omega
    subst this
    exact br_t (show (3 : Int32) ≤ nI 3 from by decide) h
  | succ d ih =>
    intro i acc hi h
    rw [en_r] at h
    rw [wY_enabled_4]
    refine br_f (nI_ge (b := 3) (by omega) (by decide)) (yw_isEnabled (by omega) hP (hd i (by omega)) (fun e => ?_) (fun e => ?_))
    · rw [if_pos e] at h
      exact br_f (by decide) (nm_e (nm_r (nI_1 i) (ih (i + 1) _ (by omega) h)))
    · rw [if_neg (by rw [e]; decide)] at h
      exact br_t rfl (nm_r (nI_1 i) (ih (i + 1) _ (by omega) h))
theorem yw_enabled {post : Int32 → Prop} (hP : mm_P z kd nm) (hd : ∀ t, t < 3 → D t ≤ z t) (h : post (en_r z kd nm (V, R, H, D) 3 0 0)) : wpY_enabled post (nI n, gf, gd, kd, nm, mm_nD z, bg, V, R, H, mm_nD D, mm_nD yd, yo, rl, sm, kp, tr, yf) :=
  ⟨4, yw_enabled_4 hP hd 3 0 0 rfl h⟩
theorem yw_pair1 {post : Int32 → Prop} {i j : Nat} (hn : n ≤ 8) (hi : i < n) (hj : j < n) (h : post 1) : wpY_isPair post (nI n, gf, gd, kd, nm, mm_nD z, bg, V, R, H, mm_nD D, mm_nD yd, yo, rl, sm, kp, tr, yf) (nI i) (nI j) :=
  br_f (nI_pos (by omega)) (br_f (nI_pos (by omega)) (br_f (nI_ge hi (by omega)) (br_f (nI_ge hj (by omega)) h)))
theorem yw_pair0 {post : Int32 → Prop} {p0 p1 : Int32} (hn : n ≤ 8) (hp : ¬ ((∃ i, i < n ∧ p0 = nI i) ∧ ∃ j, j < n ∧ p1 = nI j)) (h : post 0) : wpY_isPair post (nI n, gf, gd, kd, nm, mm_nD z, bg, V, R, H, mm_nD D, mm_nD yd, yo, rl, sm, kp, tr, yf) p0 p1 := by
  refine br_c (fun _ => h) (fun a => br_c (fun _ => h) (fun b => br_c (fun _ => h) (fun c => br_c (fun _ => h) (fun d => absurd ?_ hp))))
  refine ⟨?_, ?_⟩
  · rcases pk_ix p0 (n := n) (by omega) with w | w | w
    · exact absurd w a
    · exact absurd w c
    · exact w
  · rcases pk_ix p1 (n := n) (by omega) with w | w | w
    · exact absurd w b
    · exact absurd w d
    · exact w
theorem yw_mk {b : Bool} {post : Int32 → SY → Prop} {p0 p1 : Int32} (hE : rl_G kd nm ev yd n) (hR : rl_R b kd nm ev n rl) (h1 : ev_G b kd nm ev n p0 p1 → post 1 (nI n, gf, gd, kd, nm, mm_nD z, bg, V, R, H, mm_nD D, mm_nD yd, yo, rl, sm, kp, tr, yf)) (h0 : ¬ ev_G b kd nm ev n p0 p1 → post 0 (nI n, gf, gd, kd, nm, mm_nD z, bg, V, R, H, mm_nD D, mm_nD yd, yo, rl, sm, kp, tr, yf)) :
    wpY_isPair (fun r_20 => (((r_20 = 0 → (post 0 (nI n, gf, gd, kd, nm, mm_nD z, bg, V, R, H, mm_nD D, mm_nD yd, yo, rl, sm, kp, tr, yf))) ∧ (¬ r_20 = 0 → (vp_in ((8 * p0) + p1) 64 ∧ (((rl ((8 * p0) + p1).toNatClampNeg) = 0 → (post 0 (nI n, gf, gd, kd, nm, mm_nD z, bg, V, R, H, mm_nD D, mm_nD yd, yo, rl, sm, kp, tr, yf))) ∧ (¬ (rl ((8 * p0) + p1).toNatClampNeg) = 0 → (post 1 (nI n, gf, gd, kd, nm, mm_nD z, bg, V, R, H, mm_nD D, mm_nD yd, yo, rl, sm, kp, tr, yf))))))))) (nI n, gf, gd, kd, nm, mm_nD z, bg, V, R, H, mm_nD D, mm_nD yd, yo, rl, sm, kp, tr, yf) p0 p1 := by
  have h8 := hE.1
  by_cases q : (∃ i, i < n ∧ p0 = nI i) ∧ ∃ j, j < n ∧ p1 = nI j
  · obtain ⟨⟨i, hi, rfl⟩, ⟨j, hj, rfl⟩⟩ := q
    have e : (nI (8 * i + j)).toNatClampNeg = 8 * i + j := nI_clamp (by omega)
    have v : vp_in (nI (8 * i + j)) 64 := vp_in_nI (by omega) (by omega)
    refine yw_pair1 h8 hi hj (br_f (by decide) ?_)
    rw [mm_8, e]
    refine ⟨v, br_c (fun a => h0 ?_) (fun a => h1 ⟨i, j, hi, hj, rfl, rfl, rl_R1 hR (by omega) (by omega) a⟩)⟩
    rintro ⟨i', j', hi', hj', e, e', t'⟩
    have a1 := (nI_eq (by omega) (by omega)).mp e
    have a2 := (nI_eq (by omega) (by omega)).mp e'
    subst a1 a2
    exact rl_R0 hR (by omega) hj h8 a t'
  · exact yw_pair0 h8 q (br_t rfl (h0 fun ⟨i', j', hi', hj', e, e', t'⟩ => q ⟨⟨i', hi', e⟩, ⟨j', hj', e'⟩⟩))
theorem yw_must {post : Int32 → SY → Prop} {p0 p1 : Int32} (hE : rl_G kd nm ev yd n) (h1 : ∀ rl, ev_G false kd nm ev n p0 p1 → post 1 (nI n, gf, gd, kd, nm, mm_nD z, bg, V, R, H, mm_nD D, mm_nD yd, yo, rl, sm, kp, tr, yf)) (h0 : ∀ rl, ¬ ev_G false kd nm ev n p0 p1 → post 0 (nI n, gf, gd, kd, nm, mm_nD z, bg, V, R, H, mm_nD D, mm_nD yd, yo, rl, sm, kp, tr, yf)) : wpY_must post (nI n, gf, gd, kd, nm, mm_nD z, bg, V, R, H, mm_nD D, mm_nD yd, yo, rl, sm, kp, tr, yf) p0 p1 := by
  unfold wpY_must
  dsimp only
  exact yw_close (b := false) hE (Or.inl ⟨rfl, rfl⟩) (fun rl' hR => yw_mk hE hR (h1 rl') (h0 rl'))
theorem yw_known {post : Int32 → SY → Prop} {p0 p1 : Int32} (hE : rl_G kd nm ev yd n) (h1 : ∀ rl, ev_G true kd nm ev n p0 p1 → post 1 (nI n, gf, gd, kd, nm, mm_nD z, bg, V, R, H, mm_nD D, mm_nD yd, yo, rl, sm, kp, tr, yf)) (h0 : ∀ rl, ¬ ev_G true kd nm ev n p0 p1 → post 0 (nI n, gf, gd, kd, nm, mm_nD z, bg, V, R, H, mm_nD D, mm_nD yd, yo, rl, sm, kp, tr, yf)) : wpY_known post (nI n, gf, gd, kd, nm, mm_nD z, bg, V, R, H, mm_nD D, mm_nD yd, yo, rl, sm, kp, tr, yf) p0 p1 := by
  unfold wpY_known
  dsimp only
  exact yw_close (b := true) hE (Or.inr ⟨rfl, rfl⟩) (fun rl' hR => yw_mk hE hR (h1 rl') (h0 rl'))
theorem yw_conflicts_14 {post : Int32 → Prop} {J : Int32 → Int32 → Prop} {j : Nat} {A : Int32} (hE : rl_G kd nm ev yd n) (hj : j < n) (hJ : J (A + ct_i (ev_cf kd nm ev) j j) (nI (j + 1))) :
    ∀ d i acc, i + d = j → acc = A + ct_i (ev_cf kd nm ev) j i → wY_conflicts_14 post J (nI j) (nI n) gf gd kd nm (mm_nD z) bg V R H (mm_nD D) (mm_nD yd) yo rl sm kp tr yf (d + 1) acc (nI i) := by
  have h8 := hE.1
  intro d
  induction d with
  | zero =>
    intro i acc hi e
    have : i = j := by omega
    subst this
    rw [e]
    exact br_t (nI_le (Nat.le_refl _) (by omega)) (nm_r (nI_1 i) hJ)
  | succ d ih =>
    intro i acc hi e
    rw [wY_conflicts_14]
    refine br_f (nI_ge (by omega) (by omega)) (yw_conflict hE (by omega) hj (fun c => ?_) (fun c => ?_))
    · exact br_f (by decide) (nm_e (nm_r (nI_1 i) (ih (i + 1) _ (by omega) (by rw [e, ct_s1 c]))))
    · exact br_t rfl (nm_r (nI_1 i) (ih (i + 1) _ (by omega) (by rw [e, ct_s0 c])))
theorem yw_conflicts {post : Int32 → Prop} (hE : rl_G kd nm ev yd n) (h : post (ct_o (ev_cf kd nm ev) n)) : wpY_conflicts post (nI n, gf, gd, kd, nm, mm_nD z, bg, V, R, H, mm_nD D, mm_nD yd, yo, rl, sm, kp, tr, yf) := by
  have h8 := hE.1
  have key : ∀ d j, j + d = n → wY_conflicts_4 post (nI n) gf gd kd nm (mm_nD z) bg V R H (mm_nD D) (mm_nD yd) yo rl sm kp tr yf (d + 1) (ct_o (ev_cf kd nm ev) j) (nI j) := by
    intro d
    induction d with
    | zero =>
      intro j hj
      have : j = n := by omega
      subst this
      exact br_t (nI_le (Nat.le_refl _) (by omega)) h
    | succ d ih =>
      intro j hj
      rw [wY_conflicts_4]
      refine br_f (nI_ge (by omega) (by omega)) ⟨j + 1, ?_⟩
      refine yw_conflicts_14 (A := ct_o (ev_cf kd nm ev) j) hE (by omega) ?_ j 0 _ (by omega) (ct_z _ _ _).symm
      rw [ct_os]
      exact ih (j + 1) (by omega)
  exact ⟨n + 1, key n 0 (by omega)⟩
theorem yw_isBetween {post : Int32 → Prop} {i j : Nat} (h8 : n ≤ 8) (hR : rl_R false kd nm ev n rl) (hi : i < n) (hj : j < n) (h1 : (∃ k, k < n ∧ ev_T false kd nm ev i k ∧ ev_T false kd nm ev k j) → post 1) (h0 : (¬ ∃ k, k < n ∧ ev_T false kd nm ev i k ∧ ev_T false kd nm ev k j) → post 0) :
    wpY_isBetween post (nI n, gf, gd, kd, nm, mm_nD z, bg, V, R, H, mm_nD D, mm_nD yd, yo, rl, sm, kp, tr, yf) (nI i) (nI j) := by
  have key : ∀ d k, k + d = n → (∀ m, m < k → ¬ (ev_T false kd nm ev i m ∧ ev_T false kd nm ev m j)) → wY_isBetween_2 post (nI i) (nI j) (nI n) gf gd kd nm (mm_nD z) bg V R H (mm_nD D) (mm_nD yd) yo rl sm kp tr yf (d + 1) (nI k) := by
    intro d
    induction d with
    | zero =>
      intro k hk hI
      have : k = n := by omega
      subst this
      exact br_t (nI_le (Nat.le_refl _) (by omega)) (h0 fun ⟨m, hm, a⟩ => hI m hm a)
    | succ d ih =>
      intro k hk hI
      have e1 : (nI (8 * i + k)).toNatClampNeg = 8 * i + k := nI_clamp (by omega)
      have v1 : vp_in (nI (8 * i + k)) 64 := vp_in_nI (by omega) (by omega)
      have e2 : (nI (8 * k + j)).toNatClampNeg = 8 * k + j := nI_clamp (by omega)
      have v2 : vp_in (nI (8 * k + j)) 64 := vp_in_nI (by omega) (by omega)
      have hn : ¬ (ev_T false kd nm ev i k ∧ ev_T false kd nm ev k j) → wY_isBetween_2 post (nI i) (nI j) (nI n) gf gd kd nm (mm_nD z) bg V R H (mm_nD D) (mm_nD yd) yo rl sm kp tr yf (d + 1) (nI (k + 1)) := fun q =>
        ih (k + 1) (by omega) (fun m hm => by
          by_cases w : m = k
          · subst w; exact q
          · exact hI m (by omega))
      rw [wY_isBetween_2]
      simp only [forall_eq, mm_nDa, true_and, and_true, true_implies, false_implies, not_false_eq_true, not_true_eq_false, mm_i10, eq_self, mm_8, e1, v1, e2, v2, nI_1]
      refine br_f (nI_ge (by omega) (by omega)) (br_c (fun a => hn fun w => rl_R0 hR (by omega) (by omega) h8 a w.1) (fun a => br_c (fun b => hn fun w => rl_R0 hR (by omega) hj h8 b w.2) (fun b => h1 ⟨k, by omega, rl_R1 hR (by omega) (by omega) a, rl_R1 hR (by omega) (by omega) b⟩)))
  exact ⟨n + 1, key n 0 (by omega) (fun m hm => absurd hm (Nat.not_lt_zero _))⟩
theorem yw_needed_19 {post : Int32 → SY → Prop} {J : Int32 → Int32 → Prop} {j : Nat} {A : Int32} (hE : rl_G kd nm ev yd n) (hR : rl_R false kd nm ev n rl) (hj : j < n) (hJ : J (A + ct_i (ct_need kd nm ev n) j j) (nI (j + 1))) :
    ∀ d i acc, i + d = j → acc = A + ct_i (ct_need kd nm ev n) j i → wY_needed_19 post J (nI j) (nI n) gf gd kd nm (mm_nD z) bg V R H (mm_nD D) (mm_nD yd) yo rl sm kp tr yf (d + 1) acc (nI i) := by
  have h8 := hE.1
  intro d
  induction d with
  | zero =>
    intro i acc hi e
    have : i = j := by omega
    subst this
    rw [e]
    exact br_t (nI_le (Nat.le_refl _) (by omega)) (nm_r (nI_1 i) hJ)
  | succ d ih =>
    intro i acc hi e
    rw [wY_needed_19]
    refine br_f (nI_ge (by omega) (by omega)) (yw_conflict hE (by omega) hj (fun c => ?_) (fun c => ?_))
    · refine br_f (by decide) (yw_isBetween h8 hR (by omega) hj (fun q => ?_) (fun q => ?_))
      · exact br_f (by decide) (nm_r (nI_1 i) (ih (i + 1) _ (by omega) (by rw [e, ct_s0 (P := ct_need kd nm ev n) (fun w => w.2 q)])))
      · exact br_t rfl (nm_e (nm_r (nI_1 i) (ih (i + 1) _ (by omega) (by rw [e, ct_s1 (P := ct_need kd nm ev n) ⟨c, q⟩]))))
    · exact br_t rfl (nm_r (nI_1 i) (ih (i + 1) _ (by omega) (by rw [e, ct_s0 (P := ct_need kd nm ev n) (fun w => c w.1)])))
theorem yw_needed {post : Int32 → SY → Prop} (hE : rl_G kd nm ev yd n) (h : ∀ rl, post (ct_o (ct_need kd nm ev n) n) (nI n, gf, gd, kd, nm, mm_nD z, bg, V, R, H, mm_nD D, mm_nD yd, yo, rl, sm, kp, tr, yf)) : wpY_needed post (nI n, gf, gd, kd, nm, mm_nD z, bg, V, R, H, mm_nD D, mm_nD yd, yo, rl, sm, kp, tr, yf) := by
  have h8 := hE.1
  unfold wpY_needed
  dsimp only
  refine yw_close (b := false) hE (Or.inl ⟨rfl, rfl⟩) (fun rl hR => ?_)
  have key : ∀ d j, j + d = n → wY_needed_9 post (nI n) gf gd kd nm (mm_nD z) bg V R H (mm_nD D) (mm_nD yd) yo rl sm kp tr yf (d + 1) (ct_o (ct_need kd nm ev n) j) (nI j) := by
    intro d
    induction d with
    | zero =>
      intro j hj
      have : j = n := by omega
      subst this
      exact br_t (nI_le (Nat.le_refl _) (by omega)) (h rl)
    | succ d ih =>
      intro j hj
      rw [wY_needed_9]
      refine br_f (nI_ge (by omega) (by omega)) ⟨j + 1, ?_⟩
      refine yw_needed_19 (A := ct_o (ct_need kd nm ev n) j) hE hR (by omega) ?_ j 0 _ (by omega) (ct_z _ _ _).symm
      rw [ct_os]
      exact ih (j + 1) (by omega)
  exact ⟨n + 1, key n 0 (by omega)⟩
theorem yw_isRace {post : Int32 → Prop} {i j : Nat} (hE : rl_G kd nm ev yd n) (hR : rl_R true kd nm ev n rl) (hi : i < n) (hj : j < n) (h1 : ct_race kd nm ev i j → post 1) (h0 : ¬ ct_race kd nm ev i j → post 0) : wpY_isRace post (nI n, gf, gd, kd, nm, mm_nD z, bg, V, R, H, mm_nD D, mm_nD yd, yo, rl, sm, kp, tr, yf) (nI i) (nI j) := by
  have h8 := hE.1
  have e1 : (nI (8 * i + j)).toNatClampNeg = 8 * i + j := nI_clamp (by omega)
  have v1 : vp_in (nI (8 * i + j)) 64 := vp_in_nI (by omega) (by omega)
  unfold wpY_isRace
  dsimp only
  refine yw_conflict hE hi hj (fun c => br_f (by decide) ?_) (fun c => br_t rfl (h0 fun w => c w.1))
  refine yw_isOfLock hE hi (fun a => br_f (by decide) (h0 fun w => w.2.1 ?_)) (fun a => br_t rfl ?_)
  · rw [Int32.not_lt, Int32.le_iff_toInt_le, show (3 : Int32).toInt = 3 from by decide] at a
    rw [Int32.lt_iff_toInt_lt, show (1 : Int32).toInt = 1 from by decide]
    omega
  · rw [mm_8, e1]
    have ha : ¬ 1 < kd (ev_o ev i) := by
      rcases c.2.2 with w | w
      · exact absurd a w.1
      · exact w.1
    exact ⟨v1, br_c (fun b => h1 ⟨c, ha, rl_R0 hR (by omega) hj h8 b⟩) (fun b => h0 fun w => w.2.2 (rl_R1 hR (by omega) (by omega) b))⟩
theorem yw_races_19 {post : Int32 → SY → Prop} {J : Int32 → Int32 → Prop} {j : Nat} {A : Int32} (hE : rl_G kd nm ev yd n) (hR : rl_R true kd nm ev n rl) (hj : j < n) (hJ : J (A + ct_i (ct_race kd nm ev) j j) (nI (j + 1))) :
    ∀ d i acc, i + d = j → acc = A + ct_i (ct_race kd nm ev) j i → wY_races_19 post J (nI j) (nI n) gf gd kd nm (mm_nD z) bg V R H (mm_nD D) (mm_nD yd) yo rl sm kp tr yf (d + 1) acc (nI i) := by
  have h8 := hE.1
  intro d
  induction d with
  | zero =>
    intro i acc hi e
    have : i = j := by omega
    subst this
    rw [e]
    exact br_t (nI_le (Nat.le_refl _) (by omega)) (nm_r (nI_1 i) hJ)
  | succ d ih =>
    intro i acc hi e
    rw [wY_races_19]
    refine br_f (nI_ge (by omega) (by omega)) (yw_isRace hE hR (by omega) hj (fun c => ?_) (fun c => ?_))
    · exact br_f (by decide) (nm_e (nm_r (nI_1 i) (ih (i + 1) _ (by omega) (by rw [e, ct_s1 c]))))
    · exact br_t rfl (nm_r (nI_1 i) (ih (i + 1) _ (by omega) (by rw [e, ct_s0 c])))
theorem yw_races {post : Int32 → SY → Prop} (hE : rl_G kd nm ev yd n) (h : ∀ rl, post (ct_o (ct_race kd nm ev) n) (nI n, gf, gd, kd, nm, mm_nD z, bg, V, R, H, mm_nD D, mm_nD yd, yo, rl, sm, kp, tr, yf)) : wpY_races post (nI n, gf, gd, kd, nm, mm_nD z, bg, V, R, H, mm_nD D, mm_nD yd, yo, rl, sm, kp, tr, yf) := by
  have h8 := hE.1
  unfold wpY_races
  dsimp only
  refine yw_close (b := true) hE (Or.inr ⟨rfl, rfl⟩) (fun rl hR => ?_)
  have key : ∀ d j, j + d = n → wY_races_9 post (nI n) gf gd kd nm (mm_nD z) bg V R H (mm_nD D) (mm_nD yd) yo rl sm kp tr yf (d + 1) (ct_o (ct_race kd nm ev) j) (nI j) := by
    intro d
    induction d with
    | zero =>
      intro j hj
      have : j = n := by omega
      subst this
      exact br_t (nI_le (Nat.le_refl _) (by omega)) (h rl)
    | succ d ih =>
      intro j hj
      rw [wY_races_9]
      refine br_f (nI_ge (by omega) (by omega)) ⟨j + 1, ?_⟩
      refine yw_races_19 (A := ct_o (ct_race kd nm ev) j) hE hR (by omega) ?_ j 0 _ (by omega) (ct_z _ _ _).symm
      rw [ct_os]
      exact ih (j + 1) (by omega)
  exact ⟨n + 1, key n 0 (by omega)⟩
theorem yw_firstRace_17 {post : Int32 → SY → Prop} {J : Int32 → Prop} {j : Nat} (hE : rl_G kd nm ev yd n) (hR : rl_R true kd nm ev n rl) (hj : j < n) (hp : (∃ i, i < j ∧ ct_race kd nm ev i j) → post (nI j) (nI n, gf, gd, kd, nm, mm_nD z, bg, V, R, H, mm_nD D, mm_nD yd, yo, rl, sm, kp, tr, yf)) (hJ : (¬ ∃ i, i < j ∧ ct_race kd nm ev i j) → J (nI (j + 1))) :
    ∀ d i, i + d = j → (∀ k, k < i → ¬ ct_race kd nm ev k j) → wY_firstRace_17 post J (nI j) (nI n) gf gd kd nm (mm_nD z) bg V R H (mm_nD D) (mm_nD yd) yo rl sm kp tr yf (d + 1) (nI i) := by
  have h8 := hE.1
  intro d
  induction d with
  | zero =>
    intro i hi hI
    have : i = j := by omega
    subst this
    exact br_t (nI_le (Nat.le_refl _) (by omega)) (nm_r (nI_1 i) (hJ fun ⟨k, hk, r⟩ => hI k hk r))
  | succ d ih =>
    intro i hi hI
    rw [wY_firstRace_17]
    refine br_f (nI_ge (by omega) (by omega)) (yw_isRace hE hR (by omega) hj (fun c => br_f (by decide) (hp ⟨i, by omega, c⟩)) (fun c => br_t rfl (nm_r (nI_1 i) (ih (i + 1) (by omega) (fun k hk => ?_)))))
    by_cases w : k = i
    · subst w; exact c
    · exact hI k (by omega)
theorem yw_firstRace {post : Int32 → SY → Prop} (hE : rl_G kd nm ev yd n) (h : ∀ rl r, ct_fr (ct_race kd nm ev) n r → post r (nI n, gf, gd, kd, nm, mm_nD z, bg, V, R, H, mm_nD D, mm_nD yd, yo, rl, sm, kp, tr, yf)) : wpY_firstRace post (nI n, gf, gd, kd, nm, mm_nD z, bg, V, R, H, mm_nD D, mm_nD yd, yo, rl, sm, kp, tr, yf) := by
  have h8 := hE.1
  unfold wpY_firstRace
  dsimp only
  refine yw_close (b := true) hE (Or.inr ⟨rfl, rfl⟩) (fun rl hR => ?_)
  have key : ∀ d j, j + d = n → (∀ j', j' < j → ¬ ∃ i, i < j' ∧ ct_race kd nm ev i j') → wY_firstRace_7 post (nI n) gf gd kd nm (mm_nD z) bg V R H (mm_nD D) (mm_nD yd) yo rl sm kp tr yf (d + 1) (nI j) := by
    intro d
    induction d with
    | zero =>
      intro j hj hI
      have : j = n := by omega
      subst this
      exact br_t (nI_le (Nat.le_refl _) (by omega)) (h rl _ (Or.inr ⟨hI, rfl⟩))
    | succ d ih =>
      intro j hj hI
      rw [wY_firstRace_7]
      refine br_f (nI_ge (by omega) (by omega)) ⟨j + 1, ?_⟩
      refine yw_firstRace_17 hE hR (by omega) (fun w => h rl _ (Or.inl ⟨j, by omega, w, hI, rfl⟩)) (fun w => ih (j + 1) (by omega) (fun j' hj' => ?_)) j 0 (by omega) (fun k hk => absurd hk (Nat.not_lt_zero _))
      by_cases e : j' = j
      · subst e; exact w
      · exact hI j' (by omega)
  exact ⟨n + 1, key n 0 (by omega) (fun j' hj' => absurd hj' (Nat.not_lt_zero _))⟩
end
end
section
/-! the owed statements: counts -/
theorem i_vc_enabled {k : Nat} {u : SX} {v : SY} (I : i_Rel k u v) (hk : k + 4 ≤ 2048) : wpX_enabled (fun r => wpY_enabled (fun r' => r' = r ∧ i_Rel (k + 4) u v) v) u := by
  refine rl_el (P := fun u v => wpX_enabled (fun r => wpY_enabled (fun r' => r' = r ∧ i_Rel (k + 4) u v) v) u) ?_ I
  intro z D ev eo eh ck kc ep te yd kd nm bg R V H ol cu fg si tb pk yo rl sm kp tr yf n ff fo fd gf gd hF
  have hR := rl_mk (k := k + 4) (cu := cu) (fg := fg) (si := si) (tb := tb) (pk := pk) (rl := rl) (sm := sm) (kp := kp) (tr := tr) (yf := yf) (ff := ff) (fo := fo) (fd := fd) (gf := gf) (gd := gd) hF
  exact xw_enabled hF.1 (rl_W hF).1 (yw_enabled hF.1 (rl_W hF).1 ⟨rfl, hR⟩)
theorem i_vc_must {k : Nat} {u : SX} {v : SY} (I : i_Rel k u v) (hk : k + 4 ≤ 2048) (v1 : Int32) (v2 : Int32) : wpX_must (fun r => wpY_must (fun r' v' => r' = r ∧ i_Rel (k + 4) u v') v v1 v2) u v1 v2 := by
  refine rl_el (P := fun u v => wpX_must (fun r => wpY_must (fun r' v' => r' = r ∧ i_Rel (k + 4) u v') v v1 v2) u v1 v2) ?_ I
  intro z D ev eo eh ck kc ep te yd kd nm bg R V H ol cu fg si tb pk yo rl sm kp tr yf n ff fo fd gf gd hF
  exact xw_must (rl_toE hF) hF.2.2.2.2.2.1 (fun g => yw_must (rl_toG hF) (fun rl _ => ⟨rfl, rl_mk hF⟩) (fun rl g' => absurd g g')) (fun g => yw_must (rl_toG hF) (fun rl g' => absurd g' g) (fun rl _ => ⟨rfl, rl_mk hF⟩))
theorem i_vc_known {k : Nat} {u : SX} {v : SY} (I : i_Rel k u v) (hk : k + 4 ≤ 2048) (v1 : Int32) (v2 : Int32) : wpX_known (fun r => wpY_known (fun r' v' => r' = r ∧ i_Rel (k + 4) u v') v v1 v2) u v1 v2 := by
  refine rl_el (P := fun u v => wpX_known (fun r => wpY_known (fun r' v' => r' = r ∧ i_Rel (k + 4) u v') v v1 v2) u v1 v2) ?_ I
  intro z D ev eo eh ck kc ep te yd kd nm bg R V H ol cu fg si tb pk yo rl sm kp tr yf n ff fo fd gf gd hF
  exact xw_known (rl_toE hF) hF.2.2.2.2.2.2.1 (fun g => yw_known (rl_toG hF) (fun rl _ => ⟨rfl, rl_mk hF⟩) (fun rl g' => absurd g g')) (fun g => yw_known (rl_toG hF) (fun rl g' => absurd g' g) (fun rl _ => ⟨rfl, rl_mk hF⟩))
theorem i_vc_conflicts {k : Nat} {u : SX} {v : SY} (I : i_Rel k u v) (hk : k + 4 ≤ 2048) : wpX_conflicts (fun r => wpY_conflicts (fun r' => r' = r ∧ i_Rel (k + 4) u v) v) u := by
  refine rl_el (P := fun u v => wpX_conflicts (fun r => wpY_conflicts (fun r' => r' = r ∧ i_Rel (k + 4) u v) v) u) ?_ I
  intro z D ev eo eh ck kc ep te yd kd nm bg R V H ol cu fg si tb pk yo rl sm kp tr yf n ff fo fd gf gd hF
  have hR := rl_mk (k := k + 4) (cu := cu) (fg := fg) (si := si) (tb := tb) (pk := pk) (rl := rl) (sm := sm) (kp := kp) (tr := tr) (yf := yf) (ff := ff) (fo := fo) (fd := fd) (gf := gf) (gd := gd) hF
  exact xw_conflicts (rl_toE hF) (yw_conflicts (rl_toG hF) ⟨rfl, hR⟩)
theorem i_vc_needed {k : Nat} {u : SX} {v : SY} (I : i_Rel k u v) (hk : k + 4 ≤ 2048) : wpX_needed (fun r => wpY_needed (fun r' v' => r' = r ∧ i_Rel (k + 4) u v') v) u := by
  refine rl_el (P := fun u v => wpX_needed (fun r => wpY_needed (fun r' v' => r' = r ∧ i_Rel (k + 4) u v') v) u) ?_ I
  intro z D ev eo eh ck kc ep te yd kd nm bg R V H ol cu fg si tb pk yo rl sm kp tr yf n ff fo fd gf gd hF
  exact xw_needed (rl_toE hF) hF.2.2.2.2.2.1 (yw_needed (rl_toG hF) fun rl => ⟨rfl, rl_mk hF⟩)
theorem i_vc_races {k : Nat} {u : SX} {v : SY} (I : i_Rel k u v) (hk : k + 4 ≤ 2048) : wpX_races (fun r => wpY_races (fun r' v' => r' = r ∧ i_Rel (k + 4) u v') v) u := by
  refine rl_el (P := fun u v => wpX_races (fun r => wpY_races (fun r' v' => r' = r ∧ i_Rel (k + 4) u v') v) u) ?_ I
  intro z D ev eo eh ck kc ep te yd kd nm bg R V H ol cu fg si tb pk yo rl sm kp tr yf n ff fo fd gf gd hF
  exact xw_races (rl_toE hF) hF.2.2.2.2.2.2.1 (yw_races (rl_toG hF) fun rl => ⟨rfl, rl_mk hF⟩)
theorem i_vc_firstRace {k : Nat} {u : SX} {v : SY} (I : i_Rel k u v) (hk : k + 4 ≤ 2048) : wpX_firstRace (fun r => wpY_firstRace (fun r' v' => r' = r ∧ i_Rel (k + 4) u v') v) u := by
  refine rl_el (P := fun u v => wpX_firstRace (fun r => wpY_firstRace (fun r' v' => r' = r ∧ i_Rel (k + 4) u v') v) u) ?_ I
  intro z D ev eo eh ck kc ep te yd kd nm bg R V H ol cu fg si tb pk yo rl sm kp tr yf n ff fo fd gf gd hF
  exact xw_firstRace (rl_toE hF) hF.2.2.2.2.2.2.1 (fun r h => yw_firstRace (rl_toG hF) fun rl r' h' => ⟨ct_fr_u h h', rl_mk hF⟩)
end
section
/-! guards and crossed locks -/
theorem hv_lk {H : Nat → Int32} {t m : Nat} (hm : m < 2) : nI (mm_hv H t) ||| ((1 : Int32) <<< (nI m &&& 31)) = nI (mm_hv (upd H m (nI t)) t) := by
  unfold mm_hv
  rcases (by omega : m = 0 ∨ m = 1) with rfl | rfl
  · rw [pk_us, pk_un (by decide), if_pos rfl (c := nI t = nI t)]
    by_cases h0 : H 0 = nI t <;> by_cases h1 : H 1 = nI t <;> simp only [h0, h1, if_true, if_false] <;> decide
  · rw [pk_us, pk_un (by decide), if_pos rfl (c := nI t = nI t)]
    by_cases h0 : H 0 = nI t <;> by_cases h1 : H 1 = nI t <;> simp only [h0, h1, if_true, if_false] <;> decide
theorem hv_ul {H : Nat → Int32} {t m : Nat} (ht : t < 3) (hm : m < 2) : nI (mm_hv H t) &&& (((1 : Int32) <<< (nI m &&& 31)) ^^^ (-1)) = nI (mm_hv (upd H m (-1)) t) := by
  unfold mm_hv
  rcases (by omega : m = 0 ∨ m = 1) with rfl | rfl
  · rw [pk_us, pk_un (by decide), if_neg (mm_nIm ht)]
    by_cases h0 : H 0 = nI t <;> by_cases h1 : H 1 = nI t <;> simp only [h0, h1, if_true, if_false] <;> decide
  · rw [pk_us, pk_un (by decide), if_neg (mm_nIm ht)]
    by_cases h0 : H 0 = nI t <;> by_cases h1 : H 1 = nI t <;> simp only [h0, h1, if_true, if_false] <;> decide
theorem hv_oth {H : Nat → Int32} {t m : Nat} {x : Int32} (hm : m < 2) (h : ¬ H m = nI t) (hx : ¬ x = nI t) : mm_hv (upd H m x) t = mm_hv H t := by
  unfold mm_hv
  rcases (by omega : m = 0 ∨ m = 1) with rfl | rfl
  · rw [pk_us, pk_un (by decide), if_neg hx, if_neg h]
  · rw [pk_us, pk_un (by decide), if_neg hx, if_neg h]
theorem hv_bit {H : Nat → Int32} {t m : Nat} (hm : m < 2) : (((nI (mm_hv H t) >>> ((1 - nI m) &&& 31)) &&& 1) = 1) = (H (1 - m) = nI t) := by
  unfold mm_hv
  refine propext ?_
  rcases (by omega : m = 0 ∨ m = 1) with rfl | rfl
  · show _ ↔ H 1 = nI t
    by_cases h0 : H 0 = nI t <;> by_cases h1 : H 1 = nI t <;> simp only [h0, h1, if_true, if_false, iff_true, iff_false] <;> decide
  · show _ ↔ H 0 = nI t
    by_cases h0 : H 0 = nI t <;> by_cases h1 : H 1 = nI t <;> simp only [h0, h1, if_true, if_false, iff_true, iff_false] <;> decide
theorem hv_0 {H : Nat → Int32} {t m : Nat} (hm : m < 2) (h : ¬ H m = nI t) : (nI (mm_hv H t) = 0) = ¬ H (1 - m) = nI t := by
  unfold mm_hv
  refine propext ?_
  rcases (by omega : m = 0 ∨ m = 1) with rfl | rfl
  · show _ ↔ ¬ H 1 = nI t
    rw [if_neg h]
    by_cases h1 : H 1 = nI t <;> simp only [h1, if_true, if_false, not_true_eq_false, not_false_eq_true, iff_true, iff_false] <;> decide
  · show _ ↔ ¬ H 0 = nI t
    rw [if_neg h]
    by_cases h1 : H 0 = nI t <;> simp only [h1, if_true, if_false, not_true_eq_false, not_false_eq_true, iff_true, iff_false] <;> decide
theorem mm_xn {x : Int32} (h : x = 0 ∨ x = 1) : x = nI x.toNatClampNeg := by
  rcases h with rfl | rfl <;> decide
theorem mm_not3 {k : Int32} (h : k < 3) : k ≠ 3 ∧ k ≠ 4 := by
  refine ⟨fun e => ?_, fun e => ?_⟩
  · rw [e] at h; exact absurd h (by decide)
  · rw [e] at h; exact absurd h (by decide)
section
variable {z ev : Nat → Nat} {kd nm bg : Nat → Int32} {n : Nat}
theorem ev_Sop (k : Nat) : 4 * ev k + (ev_S kd nm bg ev k).2.2.2 (ev k) = ev_o ev k := by
  rw [ev_SD]; rfl
/-- the holders across an event -/
theorem ev_H (hP : mm_P z kd nm) (hO : ev_Ok z kd nm bg ev n) {k : Nat} (hk : k < n) :
    (kd (ev_o ev k) < 3 ∧ (ev_S kd nm bg ev (k + 1)).2.2.1 = (ev_S kd nm bg ev k).2.2.1) ∨
    (kd (ev_o ev k) = 3 ∧ ∃ m, m < 2 ∧ nm (ev_o ev k) = nI m ∧ (ev_S kd nm bg ev (k + 1)).2.2.1 = upd (ev_S kd nm bg ev k).2.2.1 m (nI (ev k)) ∧ (ev_S kd nm bg ev k).2.2.1 m = -1) ∨
    (kd (ev_o ev k) = 4 ∧ ∃ m, m < 2 ∧ nm (ev_o ev k) = nI m ∧ (ev_S kd nm bg ev (k + 1)).2.2.1 = upd (ev_S kd nm bg ev k).2.2.1 m (-1) ∧ (ev_S kd nm bg ev k).2.2.1 m = nI (ev k)) := by
  have hE := mm_en_iff.mp (hO.2 k hk).2
  have hop := ev_Sop (kd := kd) (nm := nm) (bg := bg) (ev := ev) k
  rw [hop] at hE
  rcases ev_K hP hO hk with ⟨h, hx⟩ | ⟨h, hx⟩ | h | ⟨h, hx⟩ | ⟨h, hx⟩
  · refine Or.inl ⟨by rw [h]; decide, ?_⟩
    rw [ev_S, mm_stp0 (by rw [hop]; exact h)]
  · refine Or.inl ⟨by rw [h]; decide, ?_⟩
    rw [ev_S, mm_stp1 (by rw [hop]; exact h)]
  · refine Or.inl ⟨by rw [h]; decide, ?_⟩
    rw [ev_S, mm_stp2 (by rw [hop]; exact h)]
  · refine Or.inr (Or.inl ⟨h, _, mm_cl hx, mm_xn hx, ?_, hE.2.1 h⟩)
    rw [ev_S, mm_stp3 (by rw [hop]; exact h), hop]
  · refine Or.inr (Or.inr ⟨h, _, mm_cl hx, mm_xn hx, ?_, hE.2.2 h⟩)
    rw [ev_S, mm_stp4 (by rw [hop]; exact h), hop]
end
def gu_s (kd nm bg : Nat → Int32) (ev : Nat → Nat) (v : Int32) : Nat → Int32
  | 0 => 3
  | i + 1 => if ¬ 1 < kd (ev_o ev i) ∧ nm (ev_o ev i) = v then gu_s kd nm bg ev v i &&& nI (mm_hv (ev_S kd nm bg ev i).2.2.1 (ev i)) else gu_s kd nm bg ev v i
/-- event k locks m under the other lock -/
def lu_k (kd nm bg : Nat → Int32) (ev : Nat → Nat) (m k : Nat) : Prop := kd (ev_o ev k) = 3 ∧ nm (ev_o ev k) = nI m ∧ (ev_S kd nm bg ev k).2.2.1 (1 - m) = nI (ev k)
section
variable {z D ev eo eh ck kc ep te : Nat → Nat} {kd nm bg R V H ol cu fg si tb pk : Nat → Int32} {n : Nat} {ff fo fd : Int32}
theorem xw_guard {post : Int32 → Prop} {v : Int32} (hE : rl_E ev eo ep te n) (hh : ∀ i, i < n → eh i = mm_hv (ev_S kd nm bg ev i).2.2.1 (ev i)) (hb : (¬ ∃ m, m < 2 ∧ v = nI m) → post (-1000000001)) (h : (∃ m, m < 2 ∧ v = nI m) → post (gu_s kd nm bg ev v n)) : wpX_guard post (nI n, ff, fo, fd, mm_nD z, kd, nm, bg, mm_nD D, R, V, H, mm_nD ev, mm_nD eo, mm_nD eh, ol, mm_nD ck, mm_nD kc, mm_nD ep, mm_nD te, cu, fg, si, tb, pk) v := by
  have h8 := hE.1
  unfold wpX_guard
  dsimp only
  by_cases q : ∃ m, m < 2 ∧ v = nI m
  · have hp := h q
    have key : ∀ d i, i + d = n → wX_guard_15 post v (nI n) ff fo fd (mm_nD z) kd nm bg (mm_nD D) R V H (mm_nD ev) (mm_nD eo) (mm_nD eh) ol (mm_nD ck) (mm_nD kc) (mm_nD ep) (mm_nD te) cu fg si tb pk (d + 1) (gu_s kd nm bg ev v i) (nI i) := by
      intro d
      induction d with
      | zero =>
        intro i hi
        have : i = n := by omega
        subst this
        exact br_t (nI_le (Nat.le_refl _) (by omega)) hp
      | succ d ih =>
        intro i hi
        have hi' : i < n := by omega
        have ei : (nI i).toNatClampNeg = i := nI_clamp (by omega)
        have vi : vp_in (nI i) 12 := vp_in_nI (by omega) (by omega)
        have oi := (hE.2 i hi').2.1
        have li := rl_o12 hE hi'
        have ea : (nI (ev_o ev i)).toNatClampNeg = ev_o ev i := nI_clamp (by omega)
        have va : vp_in (nI (ev_o ev i)) 12 := vp_in_nI li (by omega)
        have hs := ih (i + 1) (by omega)
        rw [gu_s] at hs
        rw [wX_guard_15]
        simp only [wpX_isAccess, forall_eq, mm_nDa, true_and, and_true, true_implies, false_implies, not_false_eq_true, not_true_eq_false, mm_i10, eq_self, ei, vi, oi, ea, va, hh i hi', nI_1]
        refine br_f (nI_ge (by omega) (by omega)) (br_c (fun a => ?_) (fun a => br_c (fun b => ?_) (fun b => ?_)))
        · rw [if_neg (fun w => w.1 a)] at hs; exact hs
        · rw [if_pos ⟨a, b⟩] at hs; exact hs
        · rw [if_neg (fun w => b w.2)] at hs; exact hs
    obtain ⟨m, hm, rfl⟩ := q
    exact xw_b20 hm (br_t rfl ⟨n + 1, key n 0 (by omega)⟩)
  · exact xw_b21 (yw_bad (by omega) q) (br_f (by decide) (hb q))
theorem xw_lockedUnder {post : Int32 → Prop} {m : Nat} (hm : m < 2) (hE : rl_E ev eo ep te n) (hh : ∀ i, i < n → eh i = mm_hv (ev_S kd nm bg ev i).2.2.1 (ev i)) (h1 : (∃ k, k < n ∧ lu_k kd nm bg ev m k) → post 1) (h0 : (¬ ∃ k, k < n ∧ lu_k kd nm bg ev m k) → post 0) : wpX_lockedUnder post (nI n, ff, fo, fd, mm_nD z, kd, nm, bg, mm_nD D, R, V, H, mm_nD ev, mm_nD eo, mm_nD eh, ol, mm_nD ck, mm_nD kc, mm_nD ep, mm_nD te, cu, fg, si, tb, pk) (nI m) := by
  have h8 := hE.1
  have key : ∀ d i x, i + d = n → ((x = 1 ∧ ∃ k, k < i ∧ lu_k kd nm bg ev m k) ∨ (x = 0 ∧ ¬ ∃ k, k < i ∧ lu_k kd nm bg ev m k)) → wX_lockedUnder_4 post (nI m) (nI n) ff fo fd (mm_nD z) kd nm bg (mm_nD D) R V H (mm_nD ev) (mm_nD eo) (mm_nD eh) ol (mm_nD ck) (mm_nD kc) (mm_nD ep) (mm_nD te) cu fg si tb pk (d + 1) x (nI i) := by
    intro d
    induction d with
    | zero =>
      intro i x hi hx
      have : i = n := by omega
      subst this
      refine br_t (nI_le (Nat.le_refl _) (by omega)) ?_
      rcases hx with ⟨rfl, hx⟩ | ⟨rfl, hx⟩
      · exact ⟨narrow_b1, h1 hx⟩
      · exact ⟨narrow_b0, h0 hx⟩
    | succ d ih =>
      intro i x hi hx
      have hi' : i < n := by omega
      have ei : (nI i).toNatClampNeg = i := nI_clamp (by omega)
      have vi : vp_in (nI i) 12 := vp_in_nI (by omega) (by omega)
      have oi := (hE.2 i hi').2.1
      have li := rl_o12 hE hi'
      have ea : (nI (ev_o ev i)).toNatClampNeg = ev_o ev i := nI_clamp (by omega)
      have va : vp_in (nI (ev_o ev i)) 12 := vp_in_nI li (by omega)
      rw [wX_lockedUnder_4]
      simp only [forall_eq, mm_nDa, true_and, and_true, true_implies, false_implies, not_false_eq_true, not_true_eq_false, mm_i10, eq_self, ei, vi, oi, ea, va, hh i hi', nI_1, hv_bit hm]
      refine br_f (nI_ge (by omega) (by omega)) ?_
      rcases hx with ⟨rfl, k, hk, hl⟩ | ⟨rfl, hx⟩
      · exact br_f (by decide) (ih (i + 1) 1 (by omega) (Or.inl ⟨rfl, k, by omega, hl⟩))
      · have hno : ¬ lu_k kd nm bg ev m i → wX_lockedUnder_4 post (nI m) (nI n) ff fo fd (mm_nD z) kd nm bg (mm_nD D) R V H (mm_nD ev) (mm_nD eo) (mm_nD eh) ol (mm_nD ck) (mm_nD kc) (mm_nD ep) (mm_nD te) cu fg si tb pk (d + 1) 0 (nI (i + 1)) := fun w =>
          ih (i + 1) 0 (by omega) (Or.inr ⟨rfl, fun ⟨k, hk, hl⟩ => by
            by_cases e : k = i
            · subst e; exact w hl
            · exact hx ⟨k, by omega, hl⟩⟩)
        refine br_t rfl (br_c (fun a => br_c (fun b => br_c (fun c => ?_) (fun c => hno fun w => c w.2.2)) (fun b => hno fun w => b w.2.1)) (fun a => hno fun w => a w.1))
        exact ih (i + 1) 1 (by omega) (Or.inl ⟨rfl, i, by omega, a, b, c⟩)
  exact ⟨n + 1, key n 0 0 (by omega) (Or.inr ⟨rfl, fun ⟨k, hk, _⟩ => absurd hk (Nat.not_lt_zero _)⟩)⟩
theorem xw_crossed {post : Int32 → Prop} (hE : rl_E ev eo ep te n) (hh : ∀ i, i < n → eh i = mm_hv (ev_S kd nm bg ev i).2.2.1 (ev i)) (h1 : ((∃ k, k < n ∧ lu_k kd nm bg ev 0 k) ∧ ∃ k, k < n ∧ lu_k kd nm bg ev 1 k) → post 1) (h0 : ¬ ((∃ k, k < n ∧ lu_k kd nm bg ev 0 k) ∧ ∃ k, k < n ∧ lu_k kd nm bg ev 1 k) → post 0) : wpX_crossed post (nI n, ff, fo, fd, mm_nD z, kd, nm, bg, mm_nD D, R, V, H, mm_nD ev, mm_nD eo, mm_nD eh, ol, mm_nD ck, mm_nD kc, mm_nD ep, mm_nD te, cu, fg, si, tb, pk) := by
  unfold wpX_crossed
  dsimp only
  refine xw_lockedUnder (m := 0) (by omega) hE hh (fun a => br_f (by decide) ?_) (fun a => br_t rfl (h0 fun w => a w.1))
  exact xw_lockedUnder (m := 1) (by omega) hE hh (fun b => br_f (by decide) (h1 ⟨a, b⟩)) (fun b => br_t rfl (h0 fun w => b w.2))
end
section
variable {z D yd ev : Nat → Nat} {kd nm bg R V H yo rl sm kp tr yf : Nat → Int32} {n : Nat} {gf gd : Int32}
theorem yw_heldAt {post : Int32 → Prop} {i : Nat} (hP : mm_P z kd nm) (hO : ev_Ok z kd nm bg ev n) (hE : rl_G kd nm ev yd n) (hi : i < n) (h : post (nI (mm_hv (ev_S kd nm bg ev i).2.2.1 (ev i)))) : wpY_heldAt post (nI n, gf, gd, kd, nm, mm_nD z, bg, V, R, H, mm_nD D, mm_nD yd, yo, rl, sm, kp, tr, yf) (nI i) := by
  have h8 := hE.1
  have ei : (nI i).toNatClampNeg = i := nI_clamp (by omega)
  have vi : vp_in (nI i) 8 := vp_in_nI (by omega) (by omega)
  have oi := (hE.2 i hi).2.1
  have ti := (hE.2 i hi).1
  have di := rl_Gd hE hi
  have key : ∀ d k, k + d = i → wY_heldAt_4 post (nI i) (nI n) gf gd kd nm (mm_nD z) bg V R H (mm_nD D) (mm_nD yd) yo rl sm kp tr yf (d + 1) (nI (mm_hv (ev_S kd nm bg ev k).2.2.1 (ev i))) (nI k) := by
    intro d
    induction d with
    | zero =>
      intro k hk
      have : k = i := by omega
      subst this
      exact br_t (nI_le (Nat.le_refl _) (by omega)) h
    | succ d ih =>
      intro k hk
      have hk' : k < n := by omega
      have ek : (nI k).toNatClampNeg = k := nI_clamp (by omega)
      have vk : vp_in (nI k) 8 := vp_in_nI (by omega) (by omega)
      have ok := (hE.2 k hk').2.1
      have tk := (hE.2 k hk').1
      have dk := rl_Gd hE hk'
      have lk := rl_G12 hE hk'
      have ea : (nI (ev_o ev k)).toNatClampNeg = ev_o ev k := nI_clamp (by omega)
      have va : vp_in (nI (ev_o ev k)) 12 := vp_in_nI lk (by omega)
      have et := nI_eq (a := ev k) (b := ev i) (by omega) (by omega)
      have hs := ih (k + 1) (by omega)
      have hH := ev_H hP hO hk'
      rw [wY_heldAt_4]
      simp only [wpY_isOfLock, forall_eq, mm_nDa, true_and, and_true, true_implies, false_implies, not_false_eq_true, not_true_eq_false, mm_i10, eq_self, mm_i40, ei, vi, ek, vk, ok, oi, dk, di, ea, va, et, nI_1, mm_23]
      refine br_f (nI_ge (by omega) (by omega)) (br_c (fun a => br_c (fun b => ?_) (fun b => br_c (fun c => ?_) (fun c => ?_))) (fun a => ?_))
      · rcases hH with ⟨_, q⟩ | ⟨q, _⟩ | ⟨q, _⟩
        · rw [q] at hs; exact hs
        · exact absurd q (mm_not3 b).1
        · exact absurd q (mm_not3 b).2
      · rcases hH with ⟨q, _⟩ | ⟨_, m, hm, em, q, _⟩ | ⟨q, _⟩
        · exact absurd q b
        · rw [em, hv_lk hm]; rw [q, a] at hs; exact hs
        · rw [c] at q; exact absurd q (by decide)
      · rcases hH with ⟨q, _⟩ | ⟨q, _⟩ | ⟨_, m, hm, em, q, _⟩
        · exact absurd q b
        · exact absurd q c
        · rw [em, hv_ul ti hm]; rw [q] at hs; exact hs
      · have hh : mm_hv (ev_S kd nm bg ev (k + 1)).2.2.1 (ev i) = mm_hv (ev_S kd nm bg ev k).2.2.1 (ev i) := by
          rcases hH with ⟨_, q⟩ | ⟨_, m, hm, em, q, r⟩ | ⟨_, m, hm, em, q, r⟩
          · rw [q]
          · rw [q]; exact hv_oth hm (by rw [r]; exact mm_nIm ti) (fun w => a (et.mp w))
          · rw [q]; exact hv_oth hm (by rw [r]; exact fun w => a (et.mp w)) (mm_nIm ti)
        rw [hh] at hs
        exact hs
  refine ⟨i + 1, ?_⟩
  have k0 := key i 0 (by omega)
  have e0 : mm_hv (ev_S kd nm bg ev 0).2.2.1 (ev i) = 0 := by
    unfold mm_hv
    have a0 : (ev_S kd nm bg ev 0).2.2.1 0 = -1 := rfl
    have a1 : (ev_S kd nm bg ev 0).2.2.1 1 = -1 := rfl
    rw [a0, a1, if_neg (mm_nIm ti), if_neg (mm_nIm ti)]
  rw [e0] at k0
  exact k0
theorem yw_guard {post : Int32 → Prop} {v : Int32} (hP : mm_P z kd nm) (hO : ev_Ok z kd nm bg ev n) (hE : rl_G kd nm ev yd n) (hb : (¬ ∃ m, m < 2 ∧ v = nI m) → post (-1000000001)) (h : (∃ m, m < 2 ∧ v = nI m) → post (gu_s kd nm bg ev v n)) : wpY_guard post (nI n, gf, gd, kd, nm, mm_nD z, bg, V, R, H, mm_nD D, mm_nD yd, yo, rl, sm, kp, tr, yf) v := by
  have h8 := hE.1
  unfold wpY_guard
  dsimp only
  by_cases q : ∃ m, m < 2 ∧ v = nI m
  · have hp := h q
    have key : ∀ d i, i + d = n → wY_guard_16 post v (nI n) gf gd kd nm (mm_nD z) bg V R H (mm_nD D) (mm_nD yd) yo rl sm kp tr yf (d + 1) (gu_s kd nm bg ev v i) (nI i) := by
      intro d
      induction d with
      | zero =>
        intro i hi
        have : i = n := by omega
        subst this
        exact br_t (nI_le (Nat.le_refl _) (by omega)) hp
      | succ d ih =>
        intro i hi
        have hi' : i < n := by omega
        have ei : (nI i).toNatClampNeg = i := nI_clamp (by omega)
        have vi : vp_in (nI i) 8 := vp_in_nI (by omega) (by omega)
        have oi := (hE.2 i hi').2.1
        have li := rl_G12 hE hi'
        have ea : (nI (ev_o ev i)).toNatClampNeg = ev_o ev i := nI_clamp (by omega)
        have va : vp_in (nI (ev_o ev i)) 12 := vp_in_nI li (by omega)
        have hs := ih (i + 1) (by omega)
        rw [gu_s] at hs
        rw [wY_guard_16]
        simp only [wY_guard_58, wY_guard_59, forall_eq, mm_nDa, true_and, and_true, true_implies, false_implies, not_false_eq_true, not_true_eq_false, mm_i10, eq_self, ei, vi, oi, ea, va, nI_1, mm_21]
        refine br_f (nI_ge (by omega) (by omega)) (br_c (fun a => ?_) (fun a => br_c (fun b => ?_) (fun b => ?_)))
        · rw [if_neg (fun w => w.1 a)] at hs; exact hs
        · rw [if_pos ⟨a, b⟩] at hs
          exact yw_heldAt hP hO hE hi' hs
        · rw [if_neg (fun w => b w.2)] at hs; exact hs
    obtain ⟨m, hm, rfl⟩ := q
    exact yw_in1 (h := 1) (by omega) (by omega) (br_f (by decide) ⟨n + 1, key n 0 (by omega)⟩)
  · exact yw_in0 (h := 1) (by omega) (yw_bad (by omega) q) (br_t rfl (hb q))
theorem lu_b0 : ∀ s, s < 4 → nI s ||| ((1 : Int32) <<< (nI 0 &&& 31)) = nI (s / 2 * 2 + 1) := by decide +kernel
theorem lu_b1 : ∀ s, s < 4 → nI s ||| ((1 : Int32) <<< (nI 1 &&& 31)) = nI (s % 2 + 2) := by decide +kernel
theorem yw_crossed {post : Int32 → Prop} (hP : mm_P z kd nm) (hO : ev_Ok z kd nm bg ev n) (hE : rl_G kd nm ev yd n) (h1 : ((∃ k, k < n ∧ lu_k kd nm bg ev 0 k) ∧ ∃ k, k < n ∧ lu_k kd nm bg ev 1 k) → post 1) (h0 : ¬ ((∃ k, k < n ∧ lu_k kd nm bg ev 0 k) ∧ ∃ k, k < n ∧ lu_k kd nm bg ev 1 k) → post 0) : wpY_crossed post (nI n, gf, gd, kd, nm, mm_nD z, bg, V, R, H, mm_nD D, mm_nD yd, yo, rl, sm, kp, tr, yf) := by
  have h8 := hE.1
  have key : ∀ d i s, i + d = n → s < 4 → (s % 2 = 1 ↔ ∃ k, k < i ∧ lu_k kd nm bg ev 0 k) → (s / 2 = 1 ↔ ∃ k, k < i ∧ lu_k kd nm bg ev 1 k) → wY_crossed_4 post (nI n) gf gd kd nm (mm_nD z) bg V R H (mm_nD D) (mm_nD yd) yo rl sm kp tr yf (d + 1) (nI s) (nI i) := by
    intro d
    induction d with
    | zero =>
      intro i s hi h4 a b
      have : i = n := by omega
      subst this
      refine br_t (nI_le (Nat.le_refl _) (by omega)) (pk_eq s 3 (fun e => h1 ⟨a.mp (by omega), b.mp (by omega)⟩) (fun e => h0 fun w => ?_))
      have := a.mpr w.1
      have := b.mpr w.2
      omega
    | succ d ih =>
      intro i s hi h4 a b
      have hi' : i < n := by omega
      have ei : (nI i).toNatClampNeg = i := nI_clamp (by omega)
      have vi : vp_in (nI i) 8 := vp_in_nI (by omega) (by omega)
      have oi := (hE.2 i hi').2.1
      have ti := (hE.2 i hi').1
      have li := rl_G12 hE hi'
      have ea : (nI (ev_o ev i)).toNatClampNeg = ev_o ev i := nI_clamp (by omega)
      have va : vp_in (nI (ev_o ev i)) 12 := vp_in_nI li (by omega)
      have hex : ∀ m, ¬ lu_k kd nm bg ev m i → ((∃ k, k < i + 1 ∧ lu_k kd nm bg ev m k) ↔ ∃ k, k < i ∧ lu_k kd nm bg ev m k) := fun m w =>
        ⟨fun ⟨k, hk, hl⟩ => by
          by_cases e : k = i
          · subst e; exact absurd hl w
          · exact ⟨k, by omega, hl⟩, fun ⟨k, hk, hl⟩ => ⟨k, by omega, hl⟩⟩
      have hno : ¬ lu_k kd nm bg ev 0 i → ¬ lu_k kd nm bg ev 1 i → wY_crossed_4 post (nI n) gf gd kd nm (mm_nD z) bg V R H (mm_nD D) (mm_nD yd) yo rl sm kp tr yf (d + 1) (nI s) (nI (i + 1)) := fun w0 w1 =>
        ih (i + 1) s (by omega) h4 (by rw [hex 0 w0]; exact a) (by rw [hex 1 w1]; exact b)
      rw [wY_crossed_4]
      simp only [wY_crossed_39, wY_crossed_40, forall_eq, mm_nDa, true_and, and_true, true_implies, false_implies, not_false_eq_true, not_true_eq_false, mm_i10, eq_self, ei, vi, oi, ea, va, nI_1]
      refine br_f (nI_ge (by omega) (by omega)) (br_c (fun c => ?_) (fun c => hno (fun w => c w.1) (fun w => c w.1)))
      rcases ev_H hP hO hi' with ⟨q, _⟩ | ⟨_, m, hm, em, _, r⟩ | ⟨q, _⟩
      · exact absurd c (mm_not3 q).1
      · have hr : ¬ (ev_S kd nm bg ev i).2.2.1 m = nI (ev i) := by rw [r]; exact mm_nIm ti
        have hz := hv_0 hm hr
        refine yw_heldAt hP hO hE hi' ?_
        simp only [hz, em]
        rcases (by omega : m = 0 ∨ m = 1) with rfl | rfl
        · have n1 : ¬ lu_k kd nm bg ev 1 i := fun w => by
            have := (mm_nIe (by omega) (by omega)).mp (em.symm.trans w.2.1)
            omega
          refine br_c (fun e => hno (fun w => e w.2.2) n1) (fun e => ?_)
          have e' : (ev_S kd nm bg ev i).2.2.1 (1 - 0) = nI (ev i) := Classical.byContradiction e
          rw [lu_b0 s h4]
          refine ih (i + 1) _ (by omega) (by omega) ⟨fun _ => ⟨i, by omega, c, em, e'⟩, fun _ => by omega⟩ ?_
          rw [hex 1 n1, ← b]
          omega
        · have n0 : ¬ lu_k kd nm bg ev 0 i := fun w => by
            have := (mm_nIe (by omega) (by omega)).mp (em.symm.trans w.2.1)
            omega
          refine br_c (fun e => hno n0 (fun w => e w.2.2)) (fun e => ?_)
          have e' : (ev_S kd nm bg ev i).2.2.1 (1 - 1) = nI (ev i) := Classical.byContradiction e
          rw [lu_b1 s h4]
          refine ih (i + 1) _ (by omega) (by omega) ?_ ⟨fun _ => ⟨i, by omega, c, em, e'⟩, fun _ => by omega⟩
          rw [hex 0 n0, ← a]
          omega
      · rw [c] at q; exact absurd q (by decide)
  exact ⟨n + 1, key n 0 0 (by omega) (by omega) ⟨fun w => by omega, fun ⟨k, hk, _⟩ => absurd hk (Nat.not_lt_zero _)⟩ ⟨fun w => by omega, fun ⟨k, hk, _⟩ => absurd hk (Nat.not_lt_zero _)⟩⟩
end
end
section
/-! X: orders -/
def od_w (t : Nat) : Nat := if t = 0 then 25 else if t = 1 then 5 else 1
def od_cut (k t : Nat) : Nat := if t = 0 then k / 25 else if t = 1 then k / 5 % 5 else k % 5
theorem od_z {p : Prop} : od_if p 0 = 0 := by
  by_cases h : p
  · exact od_t h
  · exact od_f h
theorem od_if_cg {p q : Prop} {x : Int32} (h : p ↔ q) : od_if p x = od_if q x := by rw [propext h]
theorem nI_2' (a : Nat) : nI a + 2 = nI (a + 2) := by rw [show (2 : Int32) = nI 2 from rfl, nI_add]
theorem mm_30 (a : Nat) : (3 : Int32) * nI a = nI (3 * a) := by rw [show (3 : Int32) = nI 3 from rfl, pk_mul]
theorem od_ixI (a b c : Nat) : (25 : Int32) * nI a + 5 * nI b + nI c = nI (25 * a + 5 * b + c) := by
  rw [show (25 : Int32) = nI 25 from rfl, show (5 : Int32) = nI 5 from rfl, pk_mul, pk_mul, nI_add, nI_add]
section
variable {kd nm : Nat → Int32} {ev : Nat → Nat} {n : Nat}
theorem od_fit_cg {t k : Nat} {cut cut' : Nat → Nat} (h3 : ∀ i, i < n → ev i < 3) (h : ∀ u, u < 3 → cut u = cut' u) : od_fit kd nm ev n t k cut ↔ od_fit kd nm ev n t k cut' := by
  unfold od_fit od_in
  refine ⟨fun w => ⟨w.1, fun i e a b c d f => ?_⟩, fun w => ⟨w.1, fun i e a b c d f => ?_⟩⟩
  · have := w.2 i e a b c d f
    rw [← h _ (h3 i (Nat.lt_trans (ev_T_lt d) a))]; exact this
  · have := w.2 i e a b c d f
    rw [h _ (h3 i (Nat.lt_trans (ev_T_lt d) a))]; exact this
def od_Ft (kd nm : Nat → Int32) (ev : Nat → Nat) (n k t : Nat) : Prop := 0 < od_cut k t ∧ od_fit kd nm ev n t (od_cut (k - od_w t) t) (od_cut (k - od_w t))
def od_Inv (kd nm : Nat → Int32) (ev : Nat → Nat) (n K : Nat) (cu : Nat → Int32) : Prop :=
  ∀ k, k < 125 → cu k = (if k = 0 then 1 else 0) + od_sum (fun t => od_if (od_Ft kd nm ev n k t ∧ k - od_w t < K) (cu (k - od_w t))) 3
theorem od_cut_w {k t : Nat} (ht : t < 3) (h : 0 < od_cut k t) : od_w t ≤ k := by
  rcases (by omega : t = 0 ∨ t = 1 ∨ t = 2) with rfl | rfl | rfl
  · have h : 0 < k / 25 := h
    show 25 ≤ k
    omega
  · have h : 0 < k / 5 % 5 := h
    show 5 ≤ k
    omega
  · have h : 0 < k % 5 := h
    show 1 ≤ k
    omega
theorem od_cut_s {k t : Nat} (ht : t < 3) (h : od_cut k t < 4) : od_cut (k + od_w t) t = od_cut k t + 1 := by
  rcases (by omega : t = 0 ∨ t = 1 ∨ t = 2) with rfl | rfl | rfl
  · show (k + 25) / 25 = k / 25 + 1
    omega
  · have h : k / 5 % 5 < 4 := h
    show (k + 5) / 5 % 5 = k / 5 % 5 + 1
    omega
  · have h : k % 5 < 4 := h
    show (k + 1) % 5 = k % 5 + 1
    omega
theorem od_w_pos (t : Nat) : 0 < od_w t := by
  unfold od_w
  split
  · omega
  · split <;> omega
theorem od_sum3 (g h f : Nat → Int32) (x : Int32) (e : ∀ t, t < 3 → f t = g t + h t) : x + od_sum g 3 + od_sum h 3 = x + od_sum f 3 := by
  simp only [od_sum]
  rw [e 0 (by omega), e 1 (by omega), e 2 (by omega)]
  grind
theorem od_Inv_s {K : Nat} {cu cu' : Nat → Int32} (hK : K < 125) (h4 : ∀ t, t < 3 → ev_c ev t n ≤ 4) (hI : od_Inv kd nm ev n K cu)
    (hc : ∀ k, cu' k = cu k + od_sum (fun t => od_if (od_fit kd nm ev n t (od_cut K t) (od_cut K) ∧ k = K + od_w t) (cu K)) 3) : od_Inv kd nm ev n (K + 1) cu' := by
  have hlow : ∀ k, k ≤ K → cu' k = cu k := by
    intro k hk
    rw [hc k, od_sum_0 (fun t ht => od_f (fun w => by have := od_w_pos t; omega)), Int32.add_zero]
  intro k hk
  rw [hc k, hI k hk]
  refine od_sum3 _ _ _ _ (fun t ht => ?_)
  have hw := od_w_pos t
  by_cases f : od_Ft kd nm ev n k t
  · have hwk := od_cut_w ht f.1
    rcases Nat.lt_trichotomy (k - od_w t) K with a | a | a
    · rw [od_t ⟨f, by omega⟩, od_t ⟨f, a⟩, od_f (fun w => by omega), hlow _ (by omega), Int32.add_zero]
    · have f2 := f.2
      rw [a] at f2
      rw [od_t ⟨f, by omega⟩, od_f (fun w => by omega), od_t ⟨f2, by omega⟩, a, hlow K (by omega), Int32.zero_add]
    · rw [od_f (fun w => by omega), od_f (fun w => by omega), od_f (fun w => by omega)]
      rfl
  · rw [od_f (fun w => f w.1), od_f (fun w => f w.1), od_f]
    · rfl
    · rintro ⟨w, e⟩
      apply f
      have l4 : od_cut K t < 4 := Nat.lt_of_lt_of_le w.1 (h4 t ht)
      have e2 : k - od_w t = K := by omega
      refine ⟨?_, by rw [e2]; exact w⟩
      rw [e, od_cut_s ht l4]
      omega
theorem od_cut_ix {cut : Nat → Nat} (h : ∀ t, t < 3 → cut t ≤ 4) {t : Nat} (ht : t < 3) : od_cut (od_ix cut) t = cut t := by
  have a := h 0 (by omega)
  have b := h 1 (by omega)
  have c := h 2 (by omega)
  unfold od_ix
  rcases (by omega : t = 0 ∨ t = 1 ∨ t = 2) with rfl | rfl | rfl
  · show (25 * cut 0 + 5 * cut 1 + cut 2) / 25 = cut 0
    omega
  · show (25 * cut 0 + 5 * cut 1 + cut 2) / 5 % 5 = cut 1
    omega
  · show (25 * cut 0 + 5 * cut 1 + cut 2) % 5 = cut 2
    omega
theorem od_ix_w {cut : Nat → Nat} {t : Nat} (ht : t < 3) (h : 0 < cut t) : od_ix (mm_un cut t (cut t - 1)) = od_ix cut - od_w t := by
  unfold od_ix
  rcases (by omega : t = 0 ∨ t = 1 ∨ t = 2) with rfl | rfl | rfl
  · rw [mm_us, mm_ud (by decide), mm_ud (by decide)]
    show _ = 25 * cut 0 + 5 * cut 1 + cut 2 - 25
    omega
  · rw [mm_us, mm_ud (by decide), mm_ud (by decide)]
    show _ = 25 * cut 0 + 5 * cut 1 + cut 2 - 5
    omega
  · rw [mm_us, mm_ud (by decide), mm_ud (by decide)]
    show _ = 25 * cut 0 + 5 * cut 1 + cut 2 - 1
    omega
theorem od_Inv_X {cu : Nat → Int32} (h3 : ∀ i, i < n → ev i < 3) (h4 : ∀ t, t < 3 → ev_c ev t n ≤ 4) (hI : od_Inv kd nm ev n 125 cu) : od_X kd nm ev n cu := by
  intro cut hcut
  have hc4 : ∀ t, t < 3 → cut t ≤ 4 := fun t ht => Nat.le_trans (hcut t ht) (h4 t ht)
  have hlt : od_ix cut < 125 := by
    have a := hc4 0 (by omega)
    have b := hc4 1 (by omega)
    have c := hc4 2 (by omega)
    unfold od_ix
    omega
  rw [hI _ hlt]
  congr 1
  refine od_sum_cg (fun t ht => ?_)
  by_cases q : 0 < cut t
  · rw [od_ix_w ht q]
    refine od_if_cg ?_
    have hu4 : ∀ u, u < 3 → mm_un cut t (cut t - 1) u ≤ 4 := by
      intro u hu
      by_cases e : u = t
      · subst e; rw [mm_us]; have := hc4 u hu; omega
      · rw [mm_ud e]; exact hc4 u hu
    have e1 : ∀ u, u < 3 → od_cut (od_ix cut - od_w t) u = mm_un cut t (cut t - 1) u := by
      intro u hu
      rw [← od_ix_w ht q]
      exact od_cut_ix hu4 hu
    unfold od_Ft
    rw [od_cut_ix hc4 ht, e1 t ht, mm_us, od_fit_cg h3 e1]
    exact ⟨fun w => ⟨w.1.1, w.1.2⟩, fun w => ⟨⟨w.1, w.2⟩, by omega⟩⟩
  · rw [od_f (fun w => q (by have := w.1.1; rw [od_cut_ix hc4 ht] at this; exact this)), od_f (fun w => q w.1)]
end
section
variable {z D ev eo eh ck kc ep te : Nat → Nat} {kd nm bg R V H ol cu fg si tb pk : Nat → Int32} {n : Nat} {ff fo fd : Int32}
theorem xw_fits {post : Int32 → Prop} {t : Nat} {cut : Nat → Nat} (ht : t < 3) (hE : rl_E ev eo ep te n) (hC : ev_C false kd nm ev n ck) (hD : ∀ t, D t = ev_c ev t n) (hc : ∀ u, u < 3 → cut u ≤ 4)
    (h1 : od_fit kd nm ev n t (cut t) cut → post 1) (h0 : ¬ od_fit kd nm ev n t (cut t) cut → post 0) : wpX_fits post (nI n, ff, fo, fd, mm_nD z, kd, nm, bg, mm_nD D, R, V, H, mm_nD ev, mm_nD eo, mm_nD eh, ol, mm_nD ck, mm_nD kc, mm_nD ep, mm_nD te, cu, fg, si, tb, pk) (nI t) (nI (cut t)) (nI (cut 0)) (nI (cut 1)) (nI (cut 2)) := by
  have h8 := hE.1
  have et : (nI t).toNatClampNeg = t := nI_clamp (by omega)
  have vt : vp_in (nI t) 3 := vp_in_nI ht (by omega)
  have ct := hc t ht
  have c0 := hc 0 (by omega)
  have c1 := hc 1 (by omega)
  have c2 := hc 2 (by omega)
  have dl : D t ≤ n := by rw [hD]; exact ev_c_le t n
  have ltI : (nI (cut t) < nI (D t)) = (cut t < D t) := propext (nI_ltI (by omega) (by omega))
  by_cases hk : cut t < D t
  · obtain ⟨e, he, het, hep⟩ := ev_c_ex (ev := ev) (t := t) (p := cut t) (n := n) (by rw [← hD]; exact hk)
    have Ee := hE.2 e he
    have ho : 4 * t + cut t = ev_o ev e := by unfold ev_o; rw [het, hep]
    have o12 := rl_o12 hE he
    have eo1 : (nI (ev_o ev e)).toNatClampNeg = ev_o ev e := nI_clamp (by omega)
    have vo : vp_in (nI (ev_o ev e)) 12 := vp_in_nI o12 (by omega)
    have b0 := ev_C_le hC (t := 0) he (by omega)
    have b1 := ev_C_le hC (t := 1) he (by omega)
    have b2 := ev_C_le hC (t := 2) he (by omega)
    have hiff : od_fit kd nm ev n t (cut t) cut ↔ ((t ≠ 0 → ck (3 * e) ≤ cut 0) ∧ (t ≠ 1 → ck (3 * e + 1) ≤ cut 1) ∧ (t ≠ 2 → ck (3 * e + 2) ≤ cut 2)) := by
      have hone : ∀ u, u < 3 → u ≠ t → od_fit kd nm ev n t (cut t) cut → ck (3 * e + u) ≤ cut u := by
        intro u hu hne hf
        apply Nat.le_of_not_lt
        intro q
        obtain ⟨i, l, a, b, c⟩ := (hC e he u hu (cut u)).mp q
        have hT : ev_T false kd nm ev i e := c.resolve_left (fun w => hne (by rw [← a, w, het]))
        have := hf.2 i e he het hep hT (by rw [a]; exact hne)
        unfold od_in at this
        rw [a, b] at this
        omega
      constructor
      · intro hf
        exact ⟨fun q => hone 0 (by omega) (Ne.symm q) hf, fun q => hone 1 (by omega) (Ne.symm q) hf, fun q => hone 2 (by omega) (Ne.symm q) hf⟩
      · intro hf
        refine ⟨by rw [← hD]; exact hk, fun i e' he' het' hep' hT hne => ?_⟩
        have : e' = e := ev_c_inj het' het (hep'.trans hep.symm)
        subst this
        have ti := (hE.2 i (Nat.lt_trans (ev_T_lt hT) he)).1
        have hb := (ev_C_bef hC he ti (by have := ev_T_lt hT; omega)).mpr hT
        unfold od_in
        rcases (by omega : ev i = 0 ∨ ev i = 1 ∨ ev i = 2) with w | w | w
        · rw [w] at hb hne ⊢
          have := hf.1 (Ne.symm hne)
          have hb' : ev_c ev 0 i < ck (3 * e') := hb
          omega
        · rw [w] at hb hne ⊢
          have := hf.2.1 (Ne.symm hne)
          omega
        · rw [w] at hb hne ⊢
          have := hf.2.2 (Ne.symm hne)
          omega
    have f0 : (nI t = 0) = (t = 0) := propext (nI_eq (b := 0) (by omega) (by omega))
    have f1 : (nI t = 1) = (t = 1) := propext (nI_eq (b := 1) (by omega) (by omega))
    have f2 : (nI t = 2) = (t = 2) := propext (nI_eq (b := 2) (by omega) (by omega))
    have k0 : (nI (3 * e)).toNatClampNeg = 3 * e := nI_clamp (by omega)
    have k1 : (nI (3 * e + 1)).toNatClampNeg = 3 * e + 1 := nI_clamp (by omega)
    have k2 : (nI (3 * e + 2)).toNatClampNeg = 3 * e + 2 := nI_clamp (by omega)
    have v0 : vp_in (nI (3 * e)) 36 := vp_in_nI (by omega) (by omega)
    have v1 : vp_in (nI (3 * e + 1)) 36 := vp_in_nI (by omega) (by omega)
    have v2 : vp_in (nI (3 * e + 2)) 36 := vp_in_nI (by omega) (by omega)
    have b0' : ck (3 * e) ≤ e + 1 := b0
    have l0 : (nI (cut 0) < nI (ck (3 * e))) = (cut 0 < ck (3 * e)) := propext (nI_ltI (by omega) (by omega))
    have l1 : (nI (cut 1) < nI (ck (3 * e + 1))) = (cut 1 < ck (3 * e + 1)) := propext (nI_ltI (by omega) (by omega))
    have l2 : (nI (cut 2) < nI (ck (3 * e + 2))) = (cut 2 < ck (3 * e + 2)) := propext (nI_ltI (by omega) (by omega))
    simp only [wpX_fits, wX_fits_41, wX_fits_46, wX_fits_69, wX_fits_74, forall_eq, mm_nDa, true_and, and_true, true_implies, false_implies, not_false_eq_true, not_true_eq_false, mm_i10, eq_self, et, vt, ltI, mm_4, ho, eo1, vo, Ee.2.2.2.1, f0, f1, f2, mm_30, nI_1, nI_2', k0, k1, k2, v0, v1, v2, l0, l1, l2]
    refine br_t hk ?_
    repeat' refine br_c (fun _ => ?_) (fun _ => ?_)
    all_goals first
      | exact h1 (hiff.mpr (by omega))
      | exact h0 (fun w => by have := hiff.mp w; omega)
  · simp only [wpX_fits, forall_eq, mm_nDa, true_and, and_true, true_implies, false_implies, not_false_eq_true, not_true_eq_false, mm_i10, eq_self, et, vt, ltI]
    refine br_f hk (h0 fun w => hk ?_)
    rw [hD]; exact w.1
theorem xw_sp106 {post : SX → Prop} {cut : Nat → Nat} {x : Int32} (hE : rl_E ev eo ep te n) (hC : ev_C false kd nm ev n ck) (hD : ∀ t, D t = ev_c ev t n) (hD4 : ∀ t, t < 3 → D t ≤ 4) (hc : ∀ u, u < 3 → cut u ≤ 4)
    (h : ∀ cu', (∀ k, cu' k = cu k + od_if (od_fit kd nm ev n 2 (cut 2) cut ∧ k = od_ix cut + 1) x) → post (nI n, ff, fo, fd, mm_nD z, kd, nm, bg, mm_nD D, R, V, H, mm_nD ev, mm_nD eo, mm_nD eh, ol, mm_nD ck, mm_nD kc, mm_nD ep, mm_nD te, cu', fg, si, tb, pk)) : wX_spreadCut_106 post (nI (cut 0)) (nI (cut 1)) (nI (cut 2)) x (nI n) ff fo fd (mm_nD z) kd nm bg (mm_nD D) R V H (mm_nD ev) (mm_nD eo) (mm_nD eh) ol (mm_nD ck) (mm_nD kc) (mm_nD ep) (mm_nD te) cu fg si tb pk := by
  have c0 := hc 0 (by omega)
  have c1 := hc 1 (by omega)
  have c2 := hc 2 (by omega)
  unfold wX_spreadCut_106
  refine xw_fits (t := 2) (by omega) hE hC hD hc (fun f => br_f (by decide) ?_) (fun f => br_t rfl (h cu fun k => ?_))
  · have hl : cut 2 < 4 := by
      have := f.1
      rw [← hD] at this
      exact Nat.lt_of_lt_of_le this (hD4 2 (by omega))
    have e1 : (nI (25 * cut 0 + 5 * cut 1 + (cut 2 + 1))).toNatClampNeg = 25 * cut 0 + 5 * cut 1 + (cut 2 + 1) := nI_clamp (by omega)
    have v1 : vp_in (nI (25 * cut 0 + 5 * cut 1 + (cut 2 + 1))) 125 := vp_in_nI (by omega) (by omega)
    simp only [wpX_cutAt, forall_eq, mm_nDa, true_and, and_true, true_implies, false_implies, not_false_eq_true, not_true_eq_false, mm_i10, eq_self, nI_1, od_ixI, e1, v1]
    refine h _ (fun k => ?_)
    by_cases q : k = od_ix cut + 1
    · rw [od_t ⟨f, q⟩]
      have e : k = 25 * cut 0 + 5 * cut 1 + (cut 2 + 1) := by rw [q]; unfold od_ix; omega
      rw [← e, pk_us]
    · rw [od_f (fun w => q w.2), pk_un (fun w => q (by rw [w]; unfold od_ix; omega)), Int32.add_zero]
  · rw [od_f (fun w => f w.1), Int32.add_zero]
theorem xw_sp63 {post : SX → Prop} {cut : Nat → Nat} {x : Int32} (hE : rl_E ev eo ep te n) (hC : ev_C false kd nm ev n ck) (hD : ∀ t, D t = ev_c ev t n) (hD4 : ∀ t, t < 3 → D t ≤ 4) (hc : ∀ u, u < 3 → cut u ≤ 4)
    (h : ∀ cu', (∀ k, cu' k = cu k + od_if (od_fit kd nm ev n 1 (cut 1) cut ∧ k = od_ix cut + 5) x + od_if (od_fit kd nm ev n 2 (cut 2) cut ∧ k = od_ix cut + 1) x) → post (nI n, ff, fo, fd, mm_nD z, kd, nm, bg, mm_nD D, R, V, H, mm_nD ev, mm_nD eo, mm_nD eh, ol, mm_nD ck, mm_nD kc, mm_nD ep, mm_nD te, cu', fg, si, tb, pk)) : wX_spreadCut_63 post (nI (cut 0)) (nI (cut 1)) (nI (cut 2)) x (nI n) ff fo fd (mm_nD z) kd nm bg (mm_nD D) R V H (mm_nD ev) (mm_nD eo) (mm_nD eh) ol (mm_nD ck) (mm_nD kc) (mm_nD ep) (mm_nD te) cu fg si tb pk := by
  have c0 := hc 0 (by omega)
  have c1 := hc 1 (by omega)
  have c2 := hc 2 (by omega)
  unfold wX_spreadCut_63
  refine xw_fits (t := 1) (by omega) hE hC hD hc (fun f => br_f (by decide) ?_) (fun f => br_t rfl ?_)
  · have hl : cut 1 < 4 := by
      have := f.1
      rw [← hD] at this
      exact Nat.lt_of_lt_of_le this (hD4 1 (by omega))
    have e1 : (nI (25 * cut 0 + 5 * (cut 1 + 1) + cut 2)).toNatClampNeg = 25 * cut 0 + 5 * (cut 1 + 1) + cut 2 := nI_clamp (by omega)
    have v1 : vp_in (nI (25 * cut 0 + 5 * (cut 1 + 1) + cut 2)) 125 := vp_in_nI (by omega) (by omega)
    simp only [wpX_cutAt, forall_eq, mm_nDa, true_and, and_true, true_implies, false_implies, not_false_eq_true, not_true_eq_false, mm_i10, eq_self, nI_1, od_ixI, e1, v1]
    refine xw_sp106 hE hC hD hD4 hc (fun cu' hcu => h cu' fun k => ?_)
    rw [hcu k]
    congr 1
    by_cases q : k = od_ix cut + 5
    · rw [od_t ⟨f, q⟩]
      have e : k = 25 * cut 0 + 5 * (cut 1 + 1) + cut 2 := by rw [q]; unfold od_ix; omega
      rw [← e, pk_us]
    · rw [od_f (fun w => q w.2), pk_un (fun w => q (by rw [w]; unfold od_ix; omega)), Int32.add_zero]
  · refine xw_sp106 hE hC hD hD4 hc (fun cu' hcu => h cu' fun k => ?_)
    rw [hcu k, od_f (fun w => f w.1) (p := od_fit kd nm ev n 1 (cut 1) cut ∧ k = od_ix cut + 5), Int32.add_zero]
theorem xw_spreadCut {post : SX → Prop} {cut : Nat → Nat} (hE : rl_E ev eo ep te n) (hC : ev_C false kd nm ev n ck) (hD : ∀ t, D t = ev_c ev t n) (hD4 : ∀ t, t < 3 → D t ≤ 4) (hc : ∀ u, u < 3 → cut u ≤ 4)
    (h : ∀ cu', (∀ k, cu' k = cu k + od_sum (fun t => od_if (od_fit kd nm ev n t (cut t) cut ∧ k = od_ix cut + od_w t) (cu (od_ix cut))) 3) → post (nI n, ff, fo, fd, mm_nD z, kd, nm, bg, mm_nD D, R, V, H, mm_nD ev, mm_nD eo, mm_nD eh, ol, mm_nD ck, mm_nD kc, mm_nD ep, mm_nD te, cu', fg, si, tb, pk)) : wpX_spreadCut post (nI n, ff, fo, fd, mm_nD z, kd, nm, bg, mm_nD D, R, V, H, mm_nD ev, mm_nD eo, mm_nD eh, ol, mm_nD ck, mm_nD kc, mm_nD ep, mm_nD te, cu, fg, si, tb, pk) (nI (cut 0)) (nI (cut 1)) (nI (cut 2)) := by
  have c0 := hc 0 (by omega)
  have c1 := hc 1 (by omega)
  have c2 := hc 2 (by omega)
  have e0 : (nI (25 * cut 0 + 5 * cut 1 + cut 2)).toNatClampNeg = 25 * cut 0 + 5 * cut 1 + cut 2 := nI_clamp (by omega)
  have v0 : vp_in (nI (25 * cut 0 + 5 * cut 1 + cut 2)) 125 := vp_in_nI (by omega) (by omega)
  have eix : 25 * cut 0 + 5 * cut 1 + cut 2 = od_ix cut := rfl
  have hsum : ∀ k x, od_sum (fun t => od_if (od_fit kd nm ev n t (cut t) cut ∧ k = od_ix cut + od_w t) x) 3 = od_if (od_fit kd nm ev n 0 (cut 0) cut ∧ k = od_ix cut + 25) x + od_if (od_fit kd nm ev n 1 (cut 1) cut ∧ k = od_ix cut + 5) x + od_if (od_fit kd nm ev n 2 (cut 2) cut ∧ k = od_ix cut + 1) x := by
    intro k x
    simp only [od_sum, Int32.zero_add]
    rfl
  unfold wpX_spreadCut
  dsimp only
  unfold wpX_cutAt
  dsimp only
  rw [od_ixI, e0, eix]
  refine And.intro v0 (nm_e (br_c (fun a => h cu fun k => ?_) (fun a => ?_)))
  · rw [hsum, a, od_z, od_z, od_z]
    grind
  · refine xw_fits (t := 0) (by omega) hE hC hD hc (fun f => br_f (by decide) ?_) (fun f => br_t rfl ?_)
    · have hl : cut 0 < 4 := by
        have := f.1
        rw [← hD] at this
        exact Nat.lt_of_lt_of_le this (hD4 0 (by omega))
      have e1 : (nI (25 * (cut 0 + 1) + 5 * cut 1 + cut 2)).toNatClampNeg = 25 * (cut 0 + 1) + 5 * cut 1 + cut 2 := nI_clamp (by omega)
      have v1 : vp_in (nI (25 * (cut 0 + 1) + 5 * cut 1 + cut 2)) 125 := vp_in_nI (by omega) (by omega)
      simp only [forall_eq, mm_nDa, true_and, and_true, true_implies, false_implies, not_false_eq_true, not_true_eq_false, mm_i10, eq_self, nI_1, od_ixI, e1, v1]
      refine xw_sp63 hE hC hD hD4 hc (fun cu' hcu => h cu' fun k => ?_)
      rw [hcu k, hsum]
      by_cases q : k = od_ix cut + 25
      · rw [od_t (p := od_fit kd nm ev n 0 (cut 0) cut ∧ k = od_ix cut + 25) ⟨f, q⟩]
        have e : k = 25 * (cut 0 + 1) + 5 * cut 1 + cut 2 := by rw [q]; unfold od_ix; omega
        rw [← e, pk_us]
        grind
      · rw [od_f (fun w => q w.2) (p := od_fit kd nm ev n 0 (cut 0) cut ∧ k = od_ix cut + 25), pk_un (fun w => q (by rw [w]; unfold od_ix; omega))]
        grind
    · refine xw_sp63 hE hC hD hD4 hc (fun cu' hcu => h cu' fun k => ?_)
      rw [hcu k, hsum, od_f (fun w => f w.1) (p := od_fit kd nm ev n 0 (cut 0) cut ∧ k = od_ix cut + 25)]
      grind
theorem xw_orders_30 {post : Int32 → SX → Prop} (hE : rl_E ev eo ep te n) (hC : ev_C false kd nm ev n ck) (hD : ∀ t, D t = ev_c ev t n) (hD4 : ∀ t, t < 3 → D t ≤ 4)
    (h : ∀ cu, od_X kd nm ev n cu → post (cu (od_ix (fun t => ev_c ev t n))) (nI n, ff, fo, fd, mm_nD z, kd, nm, bg, mm_nD D, R, V, H, mm_nD ev, mm_nD eo, mm_nD eh, ol, mm_nD ck, mm_nD kc, mm_nD ep, mm_nD te, cu, fg, si, tb, pk)) : ∀ d K cu, K + d = 125 → od_Inv kd nm ev n K cu → wX_orders_30 post (d + 1) (nI K) (nI n) ff fo fd (mm_nD z) kd nm bg (mm_nD D) R V H (mm_nD ev) (mm_nD eo) (mm_nD eh) ol (mm_nD ck) (mm_nD kc) (mm_nD ep) (mm_nD te) cu fg si tb pk := by
  have h4 : ∀ t, t < 3 → ev_c ev t n ≤ 4 := fun t ht => by rw [← hD]; exact hD4 t ht
  intro d
  induction d with
  | zero =>
    intro K cu hK hI
    have : K = 125 := by omega
    subst this
    have d0 := hD4 0 (by omega)
    have d1 := hD4 1 (by omega)
    have d2 := hD4 2 (by omega)
    have e1 : (nI (25 * D 0 + 5 * D 1 + D 2)).toNatClampNeg = 25 * D 0 + 5 * D 1 + D 2 := nI_clamp (by omega)
    have v1 : vp_in (nI (25 * D 0 + 5 * D 1 + D 2)) 125 := vp_in_nI (by omega) (by omega)
    have hp := h cu (od_Inv_X (fun i hi => (hE.2 i hi).1) h4 hI)
    have eD : od_ix (fun t => ev_c ev t n) = 25 * D 0 + 5 * D 1 + D 2 := by unfold od_ix; rw [hD 0, hD 1, hD 2]
    rw [eD] at hp
    rw [wX_orders_30]
    simp only [wpX_cutAt, forall_eq, mm_nDa, true_and, and_true, true_implies, false_implies, not_false_eq_true, not_true_eq_false, mm_i10, eq_self, od_ixI, e1, v1]
    exact br_t (show (125 : Int32) ≤ nI 125 from by decide) hp
  | succ d ih =>
    intro K cu hK hI
    have ed : nI K / 25 = nI (K / 25) := pk_div (d := 25) (by omega) (by omega) (by omega)
    have e5 : nI K / 5 = nI (K / 5) := pk_div (d := 5) (by omega) (by omega) (by omega)
    have er : nI (K / 5) - nI (K / 5) / 5 * 5 = nI (K / 5 % 5) := pk_rem (d := 5) (by omega) (by omega) (by omega)
    have er2 : nI K - nI (K / 5) * 5 = nI (K % 5) := by
      have := pk_rem (a := K) (d := 5) (by omega) (by omega) (by omega)
      rw [← this, show nI 5 = (5 : Int32) from rfl, e5]
    have q25 : ((25 : Int32) = 0) = False := by decide
    have q5 : ((5 : Int32) = 0) = False := by decide
    rw [wX_orders_30]
    simp only [forall_eq, mm_nDa, true_and, and_true, true_implies, false_implies, not_false_eq_true, not_true_eq_false, mm_i10, eq_self, q25, q5, ed, e5, er, er2]
    refine br_f (nI_ge (b := 125) (by omega) (by decide)) ?_
    refine xw_spreadCut (cut := od_cut K) hE hC hD hD4 (fun u hu => ?_) (fun cu' hcu => ?_)
    · rcases (by omega : u = 0 ∨ u = 1 ∨ u = 2) with rfl | rfl | rfl
      · show K / 25 ≤ 4
        omega
      · show K / 5 % 5 ≤ 4
        omega
      · show K % 5 ≤ 4
        omega
    · have eK : od_ix (od_cut K) = K := by
        show 25 * (K / 25) + 5 * (K / 5 % 5) + K % 5 = K
        omega
      rw [eK] at hcu
      have hnx := ih (K + 1) cu' (by omega) (od_Inv_s (by omega) h4 hI hcu)
      rw [← nI_1] at hnx
      exact hnx
theorem xw_orders {post : Int32 → SX → Prop} (hE : rl_E ev eo ep te n) (hC : ev_C false kd nm ev n ck) (hD : ∀ t, D t = ev_c ev t n) (hD4 : ∀ t, t < 3 → D t ≤ 4)
    (h : ∀ cu, od_X kd nm ev n cu → post (cu (od_ix (fun t => ev_c ev t n))) (nI n, ff, fo, fd, mm_nD z, kd, nm, bg, mm_nD D, R, V, H, mm_nD ev, mm_nD eo, mm_nD eh, ol, mm_nD ck, mm_nD kc, mm_nD ep, mm_nD te, cu, fg, si, tb, pk)) : wpX_orders post (nI n, ff, fo, fd, mm_nD z, kd, nm, bg, mm_nD D, R, V, H, mm_nD ev, mm_nD eo, mm_nD eh, ol, mm_nD ck, mm_nD kc, mm_nD ep, mm_nD te, cu, fg, si, tb, pk) := by
  have key : ∀ d K (cu : Nat → Int32), K + d = 125 → (∀ k, k < K → cu k = 0) → wX_orders_2 post (nI n) ff fo fd (d + 1) (nI K) (mm_nD z) kd nm bg (mm_nD D) R V H (mm_nD ev) (mm_nD eo) (mm_nD eh) ol (mm_nD ck) (mm_nD kc) (mm_nD ep) (mm_nD te) cu fg si tb pk := by
    intro d
    induction d with
    | zero =>
      intro K cu hK hI
      have : K = 125 := by omega
      subst this
      refine br_t (show (125 : Int32) ≤ nI 125 from by decide) (nm_e ⟨126, ?_⟩)
      refine xw_orders_30 hE hC hD hD4 h 125 0 _ (by omega) (fun k hk => ?_)
      rw [od_sum_0 (fun t ht => od_f (fun w => absurd w.2 (Nat.not_lt_zero _)))]
      by_cases q : k = 0
      · subst q; rw [pk_us]; rfl
      · rw [pk_un q, hI k hk, if_neg q]; rfl
    | succ d ih =>
      intro K cu hK hI
      have eK : (nI K).toNatClampNeg = K := nI_clamp (by omega)
      have vK : vp_in (nI K) 125 := vp_in_nI (by omega) (by omega)
      rw [wX_orders_2]
      simp only [forall_eq, mm_nDa, true_and, and_true, true_implies, false_implies, not_false_eq_true, not_true_eq_false, mm_i10, eq_self, eK, vK, nI_1]
      refine br_f (nI_ge (b := 125) (by omega) (by decide)) (ih (K + 1) _ (by omega) (fun k hk => ?_))
      by_cases q : k = K
      · subst q; rw [pk_us]
      · rw [pk_un q]; exact hI k (by omega)
  exact ⟨126, key 125 0 cu (by omega) (fun k hk => absurd hk (Nat.not_lt_zero _))⟩
end
end
section
/-! Y: orders -/
theorem od_p2 : ∀ n, n < 9 → (1 : Int32) <<< (nI n &&& 31) = nI (2 ^ n) := by decide +kernel
theorem od_sl : ∀ n, n < 32 → ((nI n &&& 31).toBitVec.smod 32).toNat = n := by decide +kernel
theorem od_rm : ∀ m, m < 256 → ∀ j, j < 8 → m.testBit j = true → nI m &&& (((1 : Int32) <<< (nI j &&& 31)) ^^^ (-1)) = nI (m - 2 ^ j) := by decide +kernel
theorem od_ge : ∀ m, m < 256 → ∀ j, j < 8 → m.testBit j = true → 2 ^ j ≤ m := by
  intro m _ j _ h
  apply Nat.le_of_not_lt
  intro q
  rw [Nat.testBit_lt_two_pow q] at h
  exact absurd h (by decide)
theorem od_bit {m j : Nat} (hm : m < 256) (hj : j < 8) : (((nI m >>> (nI j &&& 31)) &&& 1) = 1) = (m.testBit j = true) := by
  have hl : m / 2 ^ j ≤ m := Nat.div_le_self _ _
  rw [pk_shrN (by omega) _ j (od_sl j (by omega)), pk_andN (by omega) 1 (by decide), Nat.testBit_eq_decide_div_mod_eq]
  refine propext ?_
  rw [decide_eq_true_iff]
  exact nI_eq (b := 1) (by omega) (by omega)
section
variable {z D yd ev : Nat → Nat} {kd nm bg R V H yo rl sm kp tr yf : Nat → Int32} {n : Nat} {gf gd : Int32}
theorem yw_canBeLast {post : Int32 → Prop} {j m : Nat} (h8 : n ≤ 8) (hR : rl_R false kd nm ev n rl) (hj : j < n) (hm : m < 256)
    (h1 : (∀ k, k < n → m.testBit k = true → ¬ ev_T false kd nm ev j k) → post 1) (h0 : ¬ (∀ k, k < n → m.testBit k = true → ¬ ev_T false kd nm ev j k) → post 0) : wpY_canBeLast post (nI n, gf, gd, kd, nm, mm_nD z, bg, V, R, H, mm_nD D, mm_nD yd, yo, rl, sm, kp, tr, yf) (nI j) (nI m) := by
  have key : ∀ d k, k + d = n → (∀ i, i < k → m.testBit i = true → ¬ ev_T false kd nm ev j i) → wY_canBeLast_2 post (nI j) (nI m) (nI n) gf gd kd nm (mm_nD z) bg V R H (mm_nD D) (mm_nD yd) yo rl sm kp tr yf (d + 1) (nI k) := by
    intro d
    induction d with
    | zero =>
      intro k hk hI
      have : k = n := by omega
      subst this
      exact br_t (nI_le (Nat.le_refl _) (by omega)) (h1 hI)
    | succ d ih =>
      intro k hk hI
      have e1 : (nI (8 * j + k)).toNatClampNeg = 8 * j + k := nI_clamp (by omega)
      have v1 : vp_in (nI (8 * j + k)) 64 := vp_in_nI (by omega) (by omega)
      have hn : (m.testBit k = true → ¬ ev_T false kd nm ev j k) → wY_canBeLast_2 post (nI j) (nI m) (nI n) gf gd kd nm (mm_nD z) bg V R H (mm_nD D) (mm_nD yd) yo rl sm kp tr yf (d + 1) (nI (k + 1)) := fun q =>
        ih (k + 1) (by omega) (fun i hi => by
          by_cases w : i = k
          · subst w; exact q
          · exact hI i (by omega))
      rw [wY_canBeLast_2]
      simp only [forall_eq, mm_nDa, true_and, and_true, true_implies, false_implies, not_false_eq_true, not_true_eq_false, mm_i10, eq_self, mm_8, e1, v1, nI_1, od_bit hm (show k < 8 by omega)]
      refine br_f (nI_ge (by omega) (by omega)) (br_c (fun a => br_c (fun b => hn fun _ => rl_R0 hR (by omega) (by omega) h8 b) (fun b => h0 fun w => w k (by omega) a (rl_R1 hR (by omega) (by omega) b))) (fun a => hn fun w => absurd w a))
  exact ⟨n + 1, key n 0 (by omega) (fun i hi => absurd hi (Nat.not_lt_zero _))⟩
theorem yw_orders_33 {post : Int32 → SY → Prop} {J : Int32 → (Nat → Int32) → (Nat → Int32) → (Nat → Int32) → (Nat → Int32) → (Nat → Int32) → (Nat → Int32) → (Nat → Int32) → (Nat → Int32) → (Nat → Int32) → (Nat → Int32) → (Nat → Int32) → (Nat → Int32) → (Nat → Int32) → (Nat → Int32) → (Nat → Int32) → Prop} {m : Nat} {sm0 : Nat → Int32} (h8 : n ≤ 8) (hR : rl_R false kd nm ev n rl) (hm : m < 256)
    (hJ : ∀ sm, (∀ k, k ≠ m → sm k = sm0 k) → sm m = od_sum (fun j => od_if (od_last kd nm ev n j m) (sm0 (m - 2 ^ j))) n → J (nI (m + 1)) kd nm (mm_nD z) bg V R H (mm_nD D) (mm_nD yd) yo rl sm kp tr yf) :
    ∀ d j sm, j + d = n → (∀ k, k ≠ m → sm k = sm0 k) → sm m = od_sum (fun j => od_if (od_last kd nm ev n j m) (sm0 (m - 2 ^ j))) j → wY_orders_33 post J (nI m) (nI n) gf gd (d + 1) (nI j) kd nm (mm_nD z) bg V R H (mm_nD D) (mm_nD yd) yo rl sm kp tr yf := by
  have em : (nI m).toNatClampNeg = m := nI_clamp (by omega)
  have vm : vp_in (nI m) 256 := vp_in_nI hm (by omega)
  intro d
  induction d with
  | zero =>
    intro j sm hj h1 h2
    have : j = n := by omega
    subst this
    exact br_t (nI_le (Nat.le_refl _) (by omega)) (nm_r (nI_1 m) (hJ sm h1 h2))
  | succ d ih =>
    intro j sm hj h1 h2
    have hno : ¬ od_last kd nm ev n j m → wY_orders_63 post J (wY_orders_33 post J (nI m) (nI n) gf gd (d + 1)) (nI m) (nI j) (nI n) gf gd kd nm (mm_nD z) bg V R H (mm_nD D) (mm_nD yd) yo rl sm kp tr yf := fun q => by
      simp only [wY_orders_63, wY_orders_64, forall_eq, mm_nDa, true_and, and_true, true_implies, false_implies, not_false_eq_true, not_true_eq_false, mm_i10, eq_self, em, vm, nI_1]
      rw [mm_upd_self]
      refine ih (j + 1) sm (by omega) h1 ?_
      rw [od_sum, od_f q, Int32.add_zero]
      exact h2
    rw [wY_orders_33]
    dsimp only
    rw [od_bit hm (show j < 8 by omega)]
    refine br_f (nI_ge (by omega) (by omega)) (br_c (fun a => ?_) (fun a => hno fun w => a w.1))
    refine yw_canBeLast h8 hR (by omega) hm (fun b => br_f (by decide) ?_) (fun b => br_t rfl (hno fun w => b w.2))
    have hge := od_ge m hm j (by omega) a
    have hsl : m - 2 ^ j ≤ m := Nat.sub_le _ _
    have e1 : (nI (m - 2 ^ j)).toNatClampNeg = m - 2 ^ j := nI_clamp (by omega)
    have v1 : vp_in (nI (m - 2 ^ j)) 256 := vp_in_nI (by omega) (by omega)
    have hpos := Nat.two_pow_pos j
    simp only [wY_orders_64, forall_eq, mm_nDa, true_and, and_true, true_implies, false_implies, not_false_eq_true, not_true_eq_false, mm_i10, eq_self, em, vm, od_rm m hm j (by omega) a, e1, v1, nI_1]
    refine ih (j + 1) _ (by omega) (fun k hk => by rw [pk_un hk]; exact h1 k hk) ?_
    rw [pk_us, od_sum, od_t ⟨a, b⟩, h2, h1 (m - 2 ^ j) (by omega)]
theorem yw_orders {post : Int32 → SY → Prop} (hE : rl_G kd nm ev yd n) (h : ∀ rl sm, od_Y kd nm ev n sm → post (sm (2 ^ n - 1)) (nI n, gf, gd, kd, nm, mm_nD z, bg, V, R, H, mm_nD D, mm_nD yd, yo, rl, sm, kp, tr, yf)) : wpY_orders post (nI n, gf, gd, kd, nm, mm_nD z, bg, V, R, H, mm_nD D, mm_nD yd, yo, rl, sm, kp, tr, yf) := by
  have h8 := hE.1
  have p8 : 2 ^ n ≤ 256 := Nat.pow_le_pow_right (n := 2) (by omega) h8
  have hpos := Nat.two_pow_pos n
  unfold wpY_orders
  dsimp only
  refine yw_close (b := false) hE (Or.inl ⟨rfl, rfl⟩) (fun rl hR => nm_e ?_)
  have key : ∀ d m sm, m + d = 2 ^ n → 0 < m → sm 0 = 1 → (∀ i, 0 < i → i < m → sm i = od_sum (fun j => od_if (od_last kd nm ev n j i) (sm (i - 2 ^ j))) n) → wY_orders_14 post (nI n) gf gd (d + 1) (nI m) kd nm (mm_nD z) bg V R H (mm_nD D) (mm_nD yd) yo rl sm kp tr yf := by
    intro d
    induction d with
    | zero =>
      intro m sm hm h0 hz hI
      have : m = 2 ^ n := by omega
      subst this
      have e1 : nI (2 ^ n) - 1 = nI (2 ^ n - 1) := by
        rw [show (1 : Int32) = nI 1 from rfl, pk_sub hpos]
      have e2 : (nI (2 ^ n - 1)).toNatClampNeg = 2 ^ n - 1 := nI_clamp (by omega)
      have v2 : vp_in (nI (2 ^ n - 1)) 256 := vp_in_nI (by omega) (by omega)
      rw [wY_orders_14, od_p2 n (by omega), e1, e2]
      exact br_t (nI_le (Nat.le_refl _) (by omega)) ⟨v2, h rl sm ⟨hz, hI⟩⟩
    | succ d ih =>
      intro m sm hm h0 hz hI
      have em : (nI m).toNatClampNeg = m := nI_clamp (by omega)
      have vm : vp_in (nI m) 256 := vp_in_nI (by omega) (by omega)
      rw [wY_orders_14, od_p2 n (by omega)]
      dsimp only
      rw [em]
      refine br_f (nI_ge (by omega) (by omega)) ⟨vm, nm_e ⟨n + 1, ?_⟩⟩
      refine yw_orders_33 (sm0 := sm) h8 hR (by omega) (fun sm' k1 k2 => ?_) n 0 _ (by omega) (fun k hk => pk_un hk) pk_us
      refine ih (m + 1) sm' (by omega) (by omega) (by rw [k1 0 (by omega)]; exact hz) (fun i hi hl => ?_)
      by_cases e : i = m
      · subst e
        rw [k2]
        refine od_sum_cg (fun j hj => ?_)
        by_cases q : od_last kd nm ev n j i
        · rw [od_t q, od_t q]
          have := od_ge i (by omega) j (by omega) q.1
          have := Nat.two_pow_pos j
          rw [k1 _ (by omega)]
        · rw [od_f q, od_f q]
      · rw [k1 i e, hI i hi (by omega)]
        refine od_sum_cg (fun j hj => ?_)
        have hsl : i - 2 ^ j ≤ i := Nat.sub_le _ _
        rw [k1 (i - 2 ^ j) (by omega)]
  have e1 : 1 + (2 ^ n - 1) = 2 ^ n := by omega
  exact ⟨2 ^ n - 1 + 1, key (2 ^ n - 1) 1 _ e1 (by omega) pk_us (fun i a b => by omega)⟩
end
end
section
/-! the owed statements: guard, crossed, orders -/
theorem i_vc_guard {k : Nat} {u : SX} {v : SY} (I : i_Rel k u v) (hk : k + 4 ≤ 2048) (v1 : Int32) : wpX_guard (fun r => wpY_guard (fun r' => r' = r ∧ i_Rel (k + 4) u v) v v1) u v1 := by
  refine rl_el (P := fun u v => wpX_guard (fun r => wpY_guard (fun r' => r' = r ∧ i_Rel (k + 4) u v) v v1) u v1) ?_ I
  intro z D ev eo eh ck kc ep te yd kd nm bg R V H ol cu fg si tb pk yo rl sm kp tr yf n ff fo fd gf gd hF
  have hR := rl_mk (k := k + 4) (cu := cu) (fg := fg) (si := si) (tb := tb) (pk := pk) (rl := rl) (sm := sm) (kp := kp) (tr := tr) (yf := yf) (ff := ff) (fo := fo) (fd := fd) (gf := gf) (gd := gd) hF
  refine xw_guard (rl_toE hF) (fun i hi => (hF.2.2.2.1 i hi).2.2.2) (fun g => ?_) (fun g => ?_)
  · exact yw_guard hF.1 hF.2.1 (rl_toG hF) (fun _ => ⟨rfl, hR⟩) (fun g' => absurd g' g)
  · exact yw_guard hF.1 hF.2.1 (rl_toG hF) (fun g' => absurd g g') (fun _ => ⟨rfl, hR⟩)
theorem i_vc_crossed {k : Nat} {u : SX} {v : SY} (I : i_Rel k u v) (hk : k + 4 ≤ 2048) : wpX_crossed (fun r => wpY_crossed (fun r' => r' = r ∧ i_Rel (k + 4) u v) v) u := by
  refine rl_el (P := fun u v => wpX_crossed (fun r => wpY_crossed (fun r' => r' = r ∧ i_Rel (k + 4) u v) v) u) ?_ I
  intro z D ev eo eh ck kc ep te yd kd nm bg R V H ol cu fg si tb pk yo rl sm kp tr yf n ff fo fd gf gd hF
  have hR := rl_mk (k := k + 4) (cu := cu) (fg := fg) (si := si) (tb := tb) (pk := pk) (rl := rl) (sm := sm) (kp := kp) (tr := tr) (yf := yf) (ff := ff) (fo := fo) (fd := fd) (gf := gf) (gd := gd) hF
  refine xw_crossed (rl_toE hF) (fun i hi => (hF.2.2.2.1 i hi).2.2.2) (fun g => ?_) (fun g => ?_)
  · exact yw_crossed hF.1 hF.2.1 (rl_toG hF) (fun _ => ⟨rfl, hR⟩) (fun g' => absurd g g')
  · exact yw_crossed hF.1 hF.2.1 (rl_toG hF) (fun g' => absurd g' g) (fun _ => ⟨rfl, hR⟩)
theorem i_vc_orders {k : Nat} {u : SX} {v : SY} (I : i_Rel k u v) (hk : k + 4 ≤ 2048) : wpX_orders (fun r u' => wpY_orders (fun r' v' => r' = r ∧ i_Rel (k + 4) u' v') v) u := by
  refine rl_el (P := fun u v => wpX_orders (fun r u' => wpY_orders (fun r' v' => r' = r ∧ i_Rel (k + 4) u' v') v) u) ?_ I
  intro z D ev eo eh ck kc ep te yd kd nm bg R V H ol cu fg si tb pk yo rl sm kp tr yf n ff fo fd gf gd hF
  have hd := rl_D hF
  have hW := rl_W hF
  refine xw_orders (rl_toE hF) hF.2.2.2.2.2.1 (fun t => by rw [hd]) (fun t ht => Nat.le_trans (hW.1 t ht) (hF.1.1 t ht)) (fun cu hX => ?_)
  exact yw_orders (rl_toG hF) (fun rl sm hY => ⟨(od_ans (fun i hi => (hF.2.1.2 i hi).1) hX hY).symm, rl_mk hF⟩)
end
section
/-! the numbers of a situation, and the table that finds it again -/
def sk_p (s : MSt) (j : Nat) : Int32 :=
  if j = 0 then nI (s.2.2.2 0 + 8 * s.2.2.2 1 + 64 * s.2.2.2 2) else if j = 1 then s.1 0 else if j = 2 then s.1 1 else if j = 3 then s.2.1 0 else if j = 4 then s.2.1 1 else if j = 5 then s.2.1 2 else s.2.2.1 0 + 1 + 4 * (s.2.2.1 1 + 1)
section
variable {z : Nat → Nat} {kd nm : Nat → Int32}
theorem sk_inj {s s' : MSt} (hP : mm_P z kd nm) (hW : mm_W z kd nm s) (hW' : mm_W z kd nm s') (h : ∀ j, j < 7 → sk_p s j = sk_p s' j) : s = s' := by
  have z0 := hP.1 0 (by omega)
  have z1 := hP.1 1 (by omega)
  have z2 := hP.1 2 (by omega)
  have a0 := hW.1 0 (by omega)
  have a1 := hW.1 1 (by omega)
  have a2 := hW.1 2 (by omega)
  have b0 := hW'.1 0 (by omega)
  have b1 := hW'.1 1 (by omega)
  have b2 := hW'.1 2 (by omega)
  have e0 : nI (s.2.2.2 0 + 8 * s.2.2.2 1 + 64 * s.2.2.2 2) = nI (s'.2.2.2 0 + 8 * s'.2.2.2 1 + 64 * s'.2.2.2 2) := h 0 (by omega)
  have e0' := (nI_eq (by omega) (by omega)).mp e0
  refine mm_ext hW hW' (fun i hi => ?_) (fun i hi => ?_) (fun i hi => ?_)
  · rcases (by omega : i = 0 ∨ i = 1) with rfl | rfl
    · exact h 1 (by omega)
    · exact h 2 (by omega)
  · rcases (by omega : i = 0 ∨ i = 1 ∨ i = 2) with rfl | rfl | rfl
    · exact h 3 (by omega)
    · exact h 4 (by omega)
    · exact h 5 (by omega)
  · rcases (by omega : i = 0 ∨ i = 1 ∨ i = 2) with rfl | rfl | rfl <;> omega
end
def ht_f (p : Nat → Int32) : Nat → Int32
  | 0 => 0
  | k + 1 => ht_f p k * 31 + p k
def ht_h (p : Nat → Int32) : Nat := (ht_f p 7 ^^^ ((ht_f p 7).toUInt32 >>> ((12 : Int32).toUInt32 &&& Int32.toUInt32 31)).toInt32).toBitVec.toNat % 2 ^ 12
theorem ht_lt (p : Nat → Int32) : ht_h p < 4096 := Nat.mod_lt _ (by decide)
theorem ht_f_cg {p p' : Nat → Int32} : ∀ k, (∀ j, j < k → p j = p' j) → ht_f p k = ht_f p' k := by
  intro k
  induction k with
  | zero => exact fun _ => rfl
  | succ k ih =>
    intro h
    rw [ht_f, ht_f, ih (fun j hj => h j (by omega)), h k (by omega)]
theorem ht_cg {p p' : Nat → Int32} (h : ∀ j, j < 7 → p j = p' j) : ht_h p = ht_h p' := by
  unfold ht_h
  rw [ht_f_cg 7 h]
def ht_T (F : List MSt) (tn : Nat → Nat) : Prop :=
  (∀ h, h < 4096 → tn h ≤ F.length) ∧ (∀ h h', h < 4096 → h' < 4096 → tn h ≠ 0 → tn h = tn h' → h = h') ∧
  (∀ i s, F[i]? = some s → ∃ d, d < 4096 ∧ tn ((ht_h (sk_p s) + d) % 4096) = i + 1 ∧ ∀ e, e < d → tn ((ht_h (sk_p s) + e) % 4096) ≠ 0)
theorem ht_free {F : List MSt} {tn : Nat → Nat} (hT : ht_T F tn) (hl : F.length < 4096) (h0 : Nat) : ∃ d, d < 4096 ∧ tn ((h0 + d) % 4096) = 0 ∧ ∀ e, e < d → tn ((h0 + e) % 4096) ≠ 0 := by
  have hex : ∃ d, d < 4096 ∧ tn ((h0 + d) % 4096) = 0 := by
    apply Classical.byContradiction
    intro hh
    have hall : ∀ h, h < 4096 → tn h ≠ 0 := by
      intro h hh' e
      apply hh
      refine ⟨(h + 4096 - h0 % 4096) % 4096, by omega, ?_⟩
      rw [show (h0 + (h + 4096 - h0 % 4096) % 4096) % 4096 = h from by omega]
      exact e
    have hnd : ((List.range 4096).map (fun h => tn h - 1)).Nodup := by
      unfold List.Nodup
      rw [List.pairwise_map]
      refine List.Pairwise.imp_of_mem ?_ List.nodup_range
      intro a b ha hb hne e
      have ha' := List.mem_range.mp ha
      have hb' := List.mem_range.mp hb
      have na := hall a ha'
      have nb := hall b hb'
      exact hne (hT.2.1 a b ha' hb' na (by omega))
    have hs : ((List.range 4096).map (fun h => tn h - 1)) ⊆ List.range F.length := by
      intro x hx
      obtain ⟨h, hh', e⟩ := List.mem_map.mp hx
      have hb' := List.mem_range.mp hh'
      have := hall h hb'
      have := hT.1 h hb'
      refine List.mem_range.mpr ?_
      omega
    have hle := List.Nodup.length_le_of_subset hnd hs
    rw [List.length_map, List.length_range, List.length_range] at hle
    omega
  obtain ⟨d, hd, he⟩ := hex
  obtain ⟨u, hu, hp, hm⟩ := oc_least (fun d => tn ((h0 + d) % 4096) = 0) d he
  exact ⟨u, by omega, hp, hm⟩
theorem ht_add {F : List MSt} {tn : Nat → Nat} {s : MSt} {d : Nat} (hT : ht_T F tn) (h0 : tn ((ht_h (sk_p s) + d) % 4096) = 0) (hd : d < 4096) (he : ∀ e, e < d → tn ((ht_h (sk_p s) + e) % 4096) ≠ 0) :
    ht_T (F ++ [s]) (mm_un tn ((ht_h (sk_p s) + d) % 4096) (F.length + 1)) := by
  refine ⟨fun h hh => ?_, fun h h' hh hh' hn e => ?_, fun i x hx => ?_⟩
  · rw [List.length_append]
    show _ ≤ F.length + 1
    by_cases q : h = (ht_h (sk_p s) + d) % 4096
    · rw [q, mm_us]; omega
    · rw [mm_ud q]; have := hT.1 h hh; omega
  · by_cases q : h = (ht_h (sk_p s) + d) % 4096
    · by_cases q' : h' = (ht_h (sk_p s) + d) % 4096
      · rw [q, q']
      · rw [q, mm_us, mm_ud q'] at e
        have := hT.1 h' hh'
        omega
    · by_cases q' : h' = (ht_h (sk_p s) + d) % 4096
      · rw [q', mm_us, mm_ud q] at e
        have := hT.1 h hh
        omega
      · rw [mm_ud q] at hn
        rw [mm_ud q, mm_ud q'] at e
        exact hT.2.1 h h' hh hh' hn e
  · by_cases q : i < F.length
    · rw [List.getElem?_append_left q] at hx
      obtain ⟨c, hc, a, b⟩ := hT.2.2 i x hx
      refine ⟨c, hc, ?_, fun e hec => ?_⟩
      · rw [mm_ud (fun w => by rw [w] at a; omega)]; exact a
      · have := b e hec
        rw [mm_ud (fun w => this (by rw [w]; exact h0))]; exact this
    · rw [List.getElem?_append_right (by omega)] at hx
      have hi : i - F.length = 0 := by
        cases w : i - F.length with
        | zero => rfl
        | succ k => rw [w] at hx; simp at hx
      rw [hi] at hx
      have hx' : s = x := by simpa using hx
      subst hx'
      refine ⟨d, hd, ?_, fun e hec => ?_⟩
      · rw [mm_us]; omega
      · have := he e hec
        rw [mm_ud (fun w => this (by rw [w]; exact h0))]; exact this
/-- what X keeps of the situations found -/
def sr_H (F : List MSt) (si tb : Nat → Int32) : Prop :=
  (∀ i s, F[i]? = some s → ∀ j, j < 7 → si (7 * i + j) = sk_p s j) ∧ ∃ tn : Nat → Nat, (∀ h, h < 4096 → tb h = nI (tn h)) ∧ ht_T F tn
theorem ht_nil {tb : Nat → Int32} (h : ∀ k, k < 4096 → tb k = 0) (si : Nat → Int32) : sr_H [] si tb :=
  ⟨fun i s hs => by simp at hs, fun _ => 0, h, fun _ _ => Nat.le_refl _, fun _ _ _ _ a => absurd rfl a, fun i s hs => by simp at hs⟩
section
variable {z D ev eo eh ck kc ep te : Nat → Nat} {kd nm bg R V H ol cu fg si tb pk : Nat → Int32} {fc ff fo fd : Int32}
theorem xw_sameAs {post : Int32 → Prop} {i : Nat} (hi : i < 1750) (h1 : (∀ k, k < 7 → si (7 * i + k) = pk k) → post 1) (h0 : ¬ (∀ k, k < 7 → si (7 * i + k) = pk k) → post 0) : wpX_sameAs post (fc, ff, fo, fd, mm_nD z, kd, nm, bg, mm_nD D, R, V, H, mm_nD ev, mm_nD eo, mm_nD eh, ol, mm_nD ck, mm_nD kc, mm_nD ep, mm_nD te, cu, fg, si, tb, pk) (nI i) := by
  have key : ∀ d k, k + d = 7 → (∀ j, j < k → si (7 * i + j) = pk j) → wX_sameAs_4 post (nI i) fc ff fo fd (mm_nD z) kd nm bg (mm_nD D) R V H (mm_nD ev) (mm_nD eo) (mm_nD eh) ol (mm_nD ck) (mm_nD kc) (mm_nD ep) (mm_nD te) cu fg si tb pk (d + 1) 1 (nI k) := by
    intro d
    induction d with
    | zero =>
      intro k hk hI
      have : k = 7 := by omega
      subst this
      exact br_t (show (7 : Int32) ≤ nI 7 from by decide) ⟨narrow_b1, h1 hI⟩
    | succ d ih =>
      intro k hk hI
      have ek : (nI k).toNatClampNeg = k := nI_clamp (by omega)
      have vk : vp_in (nI k) 7 := vp_in_nI (by omega) (by omega)
      have e7 : (7 : Int32) * nI i + nI k = nI (7 * i + k) := by rw [show (7 : Int32) = nI 7 from rfl, pk_mul, nI_add]
      have e1 : (nI (7 * i + k)).toNatClampNeg = 7 * i + k := nI_clamp (by omega)
      have v1 : vp_in (nI (7 * i + k)) 12250 := vp_in_nI (by omega) (by omega)
      have hz : ¬ (∀ k, k < 7 → si (7 * i + k) = pk k) → wX_sameAs_4 post (nI i) fc ff fo fd (mm_nD z) kd nm bg (mm_nD D) R V H (mm_nD ev) (mm_nD eo) (mm_nD eh) ol (mm_nD ck) (mm_nD kc) (mm_nD ep) (mm_nD te) cu fg si tb pk (d + 1) 0 (nI (k + 1)) := fun q => by
        rw [wX_sameAs_4]
        exact br_c (fun _ => ⟨narrow_b0, h0 q⟩) (fun _ => br_t rfl ⟨narrow_b0, h0 q⟩)
      rw [wX_sameAs_4]
      simp only [forall_eq, mm_nDa, true_and, and_true, true_implies, false_implies, not_false_eq_true, not_true_eq_false, mm_i10, eq_self, ek, vk, e7, e1, v1, nI_1]
      refine br_f (nI_ge (b := 7) (by omega) (by decide)) (br_c (fun a => ?_) (fun a => hz fun w => a (w k (by omega))))
      refine ih (k + 1) (by omega) (fun j hj => ?_)
      by_cases w : j = k
      · subst w; exact a
      · exact hI j (by omega)
  exact ⟨8, key 7 0 (by omega) (fun j hj => absurd hj (Nat.not_lt_zero _))⟩
theorem xw_hash {post : Int32 → Prop} (h : post (nI (ht_h pk))) : wpX_hashOfPacked post (fc, ff, fo, fd, mm_nD z, kd, nm, bg, mm_nD D, R, V, H, mm_nD ev, mm_nD eo, mm_nD eh, ol, mm_nD ck, mm_nD kc, mm_nD ep, mm_nD te, cu, fg, si, tb, pk) := by
  have key : ∀ d k, k + d = 7 → wX_hashOfPacked_4 post fc ff fo fd (mm_nD z) kd nm bg (mm_nD D) R V H (mm_nD ev) (mm_nD eo) (mm_nD eh) ol (mm_nD ck) (mm_nD kc) (mm_nD ep) (mm_nD te) cu fg si tb pk (d + 1) (ht_f pk k) (nI k) := by
    intro d
    induction d with
    | zero =>
      intro k hk
      have : k = 7 := by omega
      subst this
      refine br_t (show (7 : Int32) ≤ nI 7 from by decide) ?_
      rw [pk_and _ 12 (by decide)]
      exact h
    | succ d ih =>
      intro k hk
      have ek : (nI k).toNatClampNeg = k := nI_clamp (by omega)
      have vk : vp_in (nI k) 7 := vp_in_nI (by omega) (by omega)
      rw [wX_hashOfPacked_4]
      simp only [forall_eq, mm_nDa, true_and, and_true, true_implies, false_implies, not_false_eq_true, not_true_eq_false, mm_i10, eq_self, ek, vk, nI_1]
      exact br_f (nI_ge (b := 7) (by omega) (by decide)) (ih (k + 1) (by omega))
  exact ⟨8, key 7 0 (by omega)⟩
theorem xw_add55 {post : SX → Prop} {F : List MSt} {s : MSt} {h : Nat} {tn : Nat → Nat} (hl : F.length < 1750) (hh : h < 4096) (hpk : ∀ j, j < 7 → pk j = sk_p s j) (hS : ∀ i s, F[i]? = some s → ∀ j, j < 7 → si (7 * i + j) = sk_p s j)
    (ht : ∀ h, h < 4096 → tb h = nI (tn h)) (hT : ht_T (F ++ [s]) (mm_un tn h (F.length + 1)))
    (hp : ∀ si' tb', sr_H (F ++ [s]) si' tb' → post (fc, nI (F.length + 1), fo, fd, mm_nD z, kd, nm, bg, mm_nD D, R, V, H, mm_nD ev, mm_nD eo, mm_nD eh, ol, mm_nD ck, mm_nD kc, mm_nD ep, mm_nD te, cu, fg, si', tb', pk)) :
    ∃ n55, wX_addPacked_55 post (nI h) fc (nI F.length) fo fd n55 0 (mm_nD z) kd nm bg (mm_nD D) R V H (mm_nD ev) (mm_nD eo) (mm_nD eh) ol (mm_nD ck) (mm_nD kc) (mm_nD ep) (mm_nD te) cu fg si tb pk := by
  have key : ∀ d k si', k + d = 7 → (∀ q, q < 7 * F.length → si' q = si q) → (∀ j, j < k → si' (7 * F.length + j) = pk j) → wX_addPacked_55 post (nI h) fc (nI F.length) fo fd (d + 1) (nI k) (mm_nD z) kd nm bg (mm_nD D) R V H (mm_nD ev) (mm_nD eo) (mm_nD eh) ol (mm_nD ck) (mm_nD kc) (mm_nD ep) (mm_nD te) cu fg si' tb pk := by
    intro d
    induction d with
    | zero =>
      intro k si' hk h1 h2
      have : k = 7 := by omega
      subst this
      have eh : (nI h).toNatClampNeg = h := nI_clamp (by omega)
      have vh : vp_in (nI h) 4096 := vp_in_nI hh (by omega)
      rw [wX_addPacked_55]
      simp only [forall_eq, mm_nDa, true_and, and_true, true_implies, false_implies, not_false_eq_true, not_true_eq_false, mm_i10, eq_self, eh, vh, nI_1]
      refine br_t (show (7 : Int32) ≤ nI 7 from by decide) (hp si' _ ⟨fun i x hx j hj => ?_, mm_un tn h (F.length + 1), fun q hq => ?_, hT⟩)
      · by_cases w : i < F.length
        · rw [List.getElem?_append_left w] at hx
          rw [h1 _ (by omega)]
          exact hS i x hx j hj
        · rw [List.getElem?_append_right (by omega)] at hx
          have hi : i - F.length = 0 := by
            cases w : i - F.length with
            | zero => rfl
            | succ k => rw [w] at hx; simp at hx
          rw [hi] at hx
          have hx' : s = x := by simpa using hx
          subst hx'
          have : i = F.length := by omega
          subst this
          rw [h2 j hj]
          exact hpk j hj
      · by_cases w : q = h
        · subst w; rw [pk_us, mm_us]
        · rw [pk_un w, mm_ud w]; exact ht q hq
    | succ d ih =>
      intro k si' hk h1 h2
      have ek : (nI k).toNatClampNeg = k := nI_clamp (by omega)
      have vk : vp_in (nI k) 7 := vp_in_nI (by omega) (by omega)
      have e7 : (7 : Int32) * nI F.length + nI k = nI (7 * F.length + k) := by rw [show (7 : Int32) = nI 7 from rfl, pk_mul, nI_add]
      have e1 : (nI (7 * F.length + k)).toNatClampNeg = 7 * F.length + k := nI_clamp (by omega)
      have v1 : vp_in (nI (7 * F.length + k)) 12250 := vp_in_nI (by omega) (by omega)
      rw [wX_addPacked_55]
      simp only [forall_eq, mm_nDa, true_and, and_true, true_implies, false_implies, not_false_eq_true, not_true_eq_false, mm_i10, eq_self, ek, vk, e7, e1, v1, nI_1]
      refine br_f (nI_ge (b := 7) (by omega) (by decide)) (ih (k + 1) _ (by omega) (fun q hq => ?_) (fun j hj => ?_))
      · rw [pk_un (by omega)]; exact h1 q hq
      · by_cases w : j = k
        · subst w; rw [pk_us]
        · rw [pk_un (by omega)]; exact h2 j (by omega)
  exact ⟨8, key 7 0 si (by omega) (fun _ _ => rfl) (fun j hj => absurd hj (Nat.not_lt_zero _))⟩
theorem xw_addPacked {post : SX → Prop} {F : List MSt} {s : MSt} (hP : mm_P z kd nm) (hpk : ∀ j, j < 7 → pk j = sk_p s j) (hW : mm_W z kd nm s) (hF : ∀ x, x ∈ F → mm_W z kd nm x) (hH : sr_H F si tb) (hl : F.length ≤ 1750) (hroom : s ∉ F → F.length < 1750)
    (h1 : s ∈ F → post (fc, nI F.length, fo, fd, mm_nD z, kd, nm, bg, mm_nD D, R, V, H, mm_nD ev, mm_nD eo, mm_nD eh, ol, mm_nD ck, mm_nD kc, mm_nD ep, mm_nD te, cu, fg, si, tb, pk)) (h2 : s ∉ F → ∀ si' tb', sr_H (F ++ [s]) si' tb' → post (fc, nI (F.length + 1), fo, fd, mm_nD z, kd, nm, bg, mm_nD D, R, V, H, mm_nD ev, mm_nD eo, mm_nD eh, ol, mm_nD ck, mm_nD kc, mm_nD ep, mm_nD te, cu, fg, si', tb', pk)) : wpX_addPacked post (fc, nI F.length, fo, fd, mm_nD z, kd, nm, bg, mm_nD D, R, V, H, mm_nD ev, mm_nD eo, mm_nD eh, ol, mm_nD ck, mm_nD kc, mm_nD ep, mm_nD te, cu, fg, si, tb, pk) := by
  obtain ⟨hS, tn, ht, hT⟩ := hH
  unfold wpX_addPacked
  dsimp only
  refine xw_hash ?_
  have hcg : ht_h pk = ht_h (sk_p s) := ht_cg hpk
  have hlt := ht_lt pk
  obtain ⟨d0, hd0, hz, hnz⟩ := ht_free hT (by omega) (ht_h pk)
  have key : ∀ r c, c + r = d0 → (∀ e, e < c → ∀ i, tn ((ht_h pk + e) % 4096) = i + 1 → F[i]? ≠ some s) → wX_addPacked_7 post fc (nI F.length) fo fd (mm_nD z) kd nm bg (mm_nD D) R V H (mm_nD ev) (mm_nD eo) (mm_nD eh) ol (mm_nD ck) (mm_nD kc) (mm_nD ep) (mm_nD te) cu fg si tb pk (r + 1) (nI ((ht_h pk + c) % 4096)) (nI c) := by
    intro r
    induction r with
    | zero =>
      intro c hc hI
      have : c = d0 := by omega
      subst this
      have em : (nI ((ht_h pk + c) % 4096)).toNatClampNeg = (ht_h pk + c) % 4096 := nI_clamp (by omega)
      have vm : vp_in (nI ((ht_h pk + c) % 4096)) 4096 := vp_in_nI (by omega) (by omega)
      have hns : s ∉ F := by
        intro hs
        obtain ⟨i, hi⟩ := List.mem_iff_getElem?.mp hs
        obtain ⟨d, hd, a, b⟩ := hT.2.2 i s hi
        rw [← hcg] at a b
        rcases Nat.lt_trichotomy d c with w | w | w
        · exact hI d w i a hi
        · subst w; rw [hz] at a; omega
        · exact b c w hz
      have etb := ht ((ht_h pk + c) % 4096) (by omega)
      rw [hz] at etb
      rw [wX_addPacked_7]
      dsimp only
      rw [em, etb]
      refine br_f (nI_ge (b := 4096) (by omega) (by decide)) ⟨vm, br_t rfl ?_⟩
      refine xw_add55 (tn := tn) (hroom hns) (by omega) hpk hS ht ?_ (h2 hns)
      have := ht_add (s := s) (d := c) hT (by rw [← hcg]; exact hz) hd0 (fun e he => by rw [← hcg]; exact hnz e he)
      rw [← hcg] at this
      exact this
    | succ r ih =>
      intro c hc hI
      have em : (nI ((ht_h pk + c) % 4096)).toNatClampNeg = (ht_h pk + c) % 4096 := nI_clamp (by omega)
      have vm : vp_in (nI ((ht_h pk + c) % 4096)) 4096 := vp_in_nI (by omega) (by omega)
      have hne := hnz c (by omega)
      obtain ⟨v, hv⟩ : ∃ v, tn ((ht_h pk + c) % 4096) = v + 1 := ⟨tn ((ht_h pk + c) % 4096) - 1, by omega⟩
      have hvl := hT.1 ((ht_h pk + c) % 4096) (by omega)
      have etb := ht ((ht_h pk + c) % 4096) (by omega)
      rw [hv] at etb
      obtain ⟨x, hx⟩ : ∃ x, F[v]? = some x := ⟨F[v]'(by omega), List.getElem?_eq_getElem (by omega)⟩
      rw [wX_addPacked_7]
      dsimp only
      rw [em, etb, nI_pred]
      refine br_f (nI_ge (b := 4096) (by omega) (by decide)) ⟨vm, br_f (nI_ne0 (by omega) (by omega)) ⟨vm, ?_⟩⟩
      refine xw_sameAs (by omega) (fun q => br_f (by decide) (h1 ?_)) (fun q => br_t rfl ?_)
      · have : s = x := sk_inj hP hW (hF x (List.mem_iff_getElem?.mpr ⟨v, hx⟩)) (fun j hj => by rw [← hpk j hj, ← q j hj]; exact hS v x hx j hj)
        subst this
        exact List.mem_iff_getElem?.mpr ⟨v, hx⟩
      · have eh : nI ((ht_h pk + c) % 4096) + 1 &&& 4095 = nI ((ht_h pk + (c + 1)) % 4096) := by
          rw [nI_1, pk_andN (by omega) 12 (by decide)]
          exact congrArg nI (by omega)
        refine nm_r eh (nm_r (nI_1 c) ?_)
        refine ih (c + 1) (by omega) (fun e he i hi => ?_)
        by_cases w : e = c
        · subst w
          rw [hv] at hi
          have : v = i := by omega
          subst this
          intro hs
          apply q
          intro k hk
          rw [hpk k hk]
          exact hS v s hs k hk
        · exact hI e (by omega) i hi
  have k0 := key d0 0 (by omega) (fun e he => absurd he (Nat.not_lt_zero _))
  rw [show (ht_h pk + 0) % 4096 = ht_h pk from by omega] at k0
  exact ⟨d0 + 1, k0⟩
end
end
section
/-! X: situations packed and unpacked, one situation gone on from -/
theorem mm_t3 {f g : Nat → Int32} (h : ∀ i, 3 ≤ i → f i = g i) : upd (upd (upd f 0 (g 0)) 1 (g 1)) 2 (g 2) = g := by
  funext i
  by_cases e2 : i = 2
  · subst e2; rw [pk_us]
  · rw [pk_un e2]
    by_cases e1 : i = 1
    · subst e1; rw [pk_us]
    · rw [pk_un e1]
      by_cases e0 : i = 0
      · subst e0; rw [pk_us]
      · rw [pk_un e0]; exact h i (by omega)
theorem up_d0 : ∀ a, a < 5 → ∀ b, b < 5 → ∀ c, c < 5 → (nI (a + 8 * b + 64 * c) >>> (((3 : Int32) * 0) &&& 31)) &&& 7 = nI a := by decide +kernel
theorem up_d1 : ∀ a, a < 5 → ∀ b, b < 5 → ∀ c, c < 5 → (nI (a + 8 * b + 64 * c) >>> (((3 : Int32) * 1) &&& 31)) &&& 7 = nI b := by decide +kernel
theorem up_d2 : ∀ a, a < 5 → ∀ b, b < 5 → ∀ c, c < 5 → (nI (a + 8 * b + 64 * c) >>> (((3 : Int32) * 2) &&& 31)) &&& 7 = nI c := by decide +kernel
theorem up_c {x : Int32} (h : x = -1 ∨ ∃ t, t < 3 ∧ x = nI t) : x = -1 ∨ x = 0 ∨ x = 1 ∨ x = 2 := by
  rcases h with h | ⟨t, ht, h⟩
  · exact Or.inl h
  · rcases (by omega : t = 0 ∨ t = 1 ∨ t = 2) with rfl | rfl | rfl
    · exact Or.inr (Or.inl h)
    · exact Or.inr (Or.inr (Or.inl h))
    · exact Or.inr (Or.inr (Or.inr h))
theorem up_h0 {x y : Int32} (hx : x = -1 ∨ ∃ t, t < 3 ∧ x = nI t) (hy : y = -1 ∨ ∃ t, t < 3 ∧ y = nI t) : ((x + 1 + 4 * (y + 1)) &&& 3) - 1 = x := by
  rcases up_c hx with rfl | rfl | rfl | rfl <;> rcases up_c hy with rfl | rfl | rfl | rfl <;> decide
theorem up_h1 {x y : Int32} (hx : x = -1 ∨ ∃ t, t < 3 ∧ x = nI t) (hy : y = -1 ∨ ∃ t, t < 3 ∧ y = nI t) : ((x + 1 + 4 * (y + 1)) >>> ((2 : Int32) &&& 31)) - 1 = y := by
  rcases up_c hx with rfl | rfl | rfl | rfl <;> rcases up_c hy with rfl | rfl | rfl | rfl <;> decide
/-- nothing beyond the arrays' ends -/
def mm_Z (V R H : Nat → Int32) (D : Nat → Nat) : Prop := (∀ i, 2 ≤ i → V i = 0 ∧ H i = 0) ∧ (∀ i, 3 ≤ i → R i = 0 ∧ D i = 0)
theorem mm_WZ {z : Nat → Nat} {kd nm V R H : Nat → Int32} {D : Nat → Nat} (h : mm_W z kd nm (V, R, H, D)) : mm_Z V R H D := ⟨h.2.2.1, h.2.2.2.1⟩
/-- what X keeps of the outcomes -/
def sr_O (z : Nat → Nat) (T : List MSt) (fo fd : Int32) (fg : Nat → Int32) : Prop :=
  fo = nI T.length ∧ fd = nI (T.countP (oc_dead z)) ∧ (T ≠ [] → ∀ v, v < 2 → oc_gr T v (fg v))
def sr_S (z : Nat → Nat) (kd nm : Nat → Int32) (s0 : MSt) (F : List MSt) : Prop :=
  F.Nodup ∧ (∀ s, s ∈ F → ∃ n, oc_P z kd nm n s0 s) ∧ F[0]? = some s0
section
variable {z D ev eo eh ck kc ep te : Nat → Nat} {kd nm bg R V H ol cu fg si tb pk : Nat → Int32} {n : Nat} {fc ff fo fd : Int32}
theorem xw_packNow {post : SX → Prop} (h : ∀ pk', (∀ j, j < 7 → pk' j = sk_p (V, R, H, D) j) → post (fc, ff, fo, fd, mm_nD z, kd, nm, bg, mm_nD D, R, V, H, mm_nD ev, mm_nD eo, mm_nD eh, ol, mm_nD ck, mm_nD kc, mm_nD ep, mm_nD te, cu, fg, si, tb, pk')) : wpX_packNow post (fc, ff, fo, fd, mm_nD z, kd, nm, bg, mm_nD D, R, V, H, mm_nD ev, mm_nD eo, mm_nD eh, ol, mm_nD ck, mm_nD kc, mm_nD ep, mm_nD te, cu, fg, si, tb, pk) := by
  have e0 : nI (D 0) + 8 * nI (D 1) + 64 * nI (D 2) = nI (D 0 + 8 * D 1 + 64 * D 2) := by
    rw [show (8 : Int32) = nI 8 from rfl, show (64 : Int32) = nI 64 from rfl, pk_mul, pk_mul, nI_add, nI_add]
  simp only [wpX_packNow, forall_eq, mm_nDa, e0]
  refine h _ (fun j hj => ?_)
  rcases (by omega : j = 0 ∨ j = 1 ∨ j = 2 ∨ j = 3 ∨ j = 4 ∨ j = 5 ∨ j = 6) with rfl | rfl | rfl | rfl | rfl | rfl | rfl
  · rw [pk_un (by decide), pk_un (by decide), pk_un (by decide), pk_un (by decide), pk_un (by decide), pk_un (by decide), pk_us]; rfl
  · rw [pk_un (by decide), pk_un (by decide), pk_un (by decide), pk_un (by decide), pk_un (by decide), pk_us]; rfl
  · rw [pk_un (by decide), pk_un (by decide), pk_un (by decide), pk_un (by decide), pk_us]; rfl
  · rw [pk_un (by decide), pk_un (by decide), pk_un (by decide), pk_us]; rfl
  · rw [pk_un (by decide), pk_un (by decide), pk_us]; rfl
  · rw [pk_un (by decide), pk_us]; rfl
  · rw [pk_us]; rfl
theorem xw_unpack {post : SX → Prop} {i : Nat} {V' R' H' : Nat → Int32} {D' : Nat → Nat} (hi : i < 1750) (hs : ∀ j, j < 7 → si (7 * i + j) = sk_p (V, R, H, D) j) (hP : mm_P z kd nm) (hW : mm_W z kd nm (V, R, H, D)) (hZ : mm_Z V' R' H' D')
    (h : post (fc, ff, fo, fd, mm_nD z, kd, nm, bg, mm_nD D, R, V, H, mm_nD ev, mm_nD eo, mm_nD eh, ol, mm_nD ck, mm_nD kc, mm_nD ep, mm_nD te, cu, fg, si, tb, pk)) : wpX_unpack post (fc, ff, fo, fd, mm_nD z, kd, nm, bg, mm_nD D', R', V', H', mm_nD ev, mm_nD eo, mm_nD eh, ol, mm_nD ck, mm_nD kc, mm_nD ep, mm_nD te, cu, fg, si, tb, pk) (nI i) := by
  have z0 := hP.1 0 (by omega)
  have z1 := hP.1 1 (by omega)
  have z2 := hP.1 2 (by omega)
  have d0 : D 0 ≤ z 0 := hW.1 0 (by omega)
  have d1 : D 1 ≤ z 1 := hW.1 1 (by omega)
  have d2 : D 2 ≤ z 2 := hW.1 2 (by omega)
  have hH0 : H 0 = -1 ∨ ∃ t, t < 3 ∧ H 0 = nI t := hW.2.1 0 (by omega)
  have hH1 : H 1 = -1 ∨ ∃ t, t < 3 ∧ H 1 = nI t := hW.2.1 1 (by omega)
  have s0 : si (7 * i) = nI (D 0 + 8 * D 1 + 64 * D 2) := hs 0 (by omega)
  have s1 : si (7 * i + 1) = V 0 := hs 1 (by omega)
  have s2 : si (7 * i + 2) = V 1 := hs 2 (by omega)
  have s3 : si (7 * i + 3) = R 0 := hs 3 (by omega)
  have s4 : si (7 * i + 4) = R 1 := hs 4 (by omega)
  have s5 : si (7 * i + 5) = R 2 := hs 5 (by omega)
  have s6 : si (7 * i + 6) = H 0 + 1 + 4 * (H 1 + 1) := hs 6 (by omega)
  have q0 : (7 : Int32) * nI i = nI (7 * i) := by rw [show (7 : Int32) = nI 7 from rfl, pk_mul]
  have q1 : nI (7 * i) + 1 = nI (7 * i + 1) := nI_1 _
  have q2 : nI (7 * i) + 2 = nI (7 * i + 2) := nI_2' _
  have q6 : nI (7 * i) + 6 = nI (7 * i + 6) := by rw [show (6 : Int32) = nI 6 from rfl, nI_add]
  have q30 : nI (7 * i) + 3 + 0 = nI (7 * i + 3) := by rw [show (3 : Int32) = nI 3 from rfl, nI_add, Int32.add_zero]
  have q31 : nI (7 * i) + 3 + 1 = nI (7 * i + 4) := by rw [show (3 : Int32) = nI 3 from rfl, nI_add, nI_1]
  have q32 : nI (7 * i) + 3 + 2 = nI (7 * i + 5) := by rw [show (3 : Int32) = nI 3 from rfl, nI_add, nI_2']
  have c0 : (nI (7 * i)).toNatClampNeg = 7 * i := nI_clamp (by omega)
  have c1 : (nI (7 * i + 1)).toNatClampNeg = 7 * i + 1 := nI_clamp (by omega)
  have c2 : (nI (7 * i + 2)).toNatClampNeg = 7 * i + 2 := nI_clamp (by omega)
  have c3 : (nI (7 * i + 3)).toNatClampNeg = 7 * i + 3 := nI_clamp (by omega)
  have c4 : (nI (7 * i + 4)).toNatClampNeg = 7 * i + 4 := nI_clamp (by omega)
  have c5 : (nI (7 * i + 5)).toNatClampNeg = 7 * i + 5 := nI_clamp (by omega)
  have c6 : (nI (7 * i + 6)).toNatClampNeg = 7 * i + 6 := nI_clamp (by omega)
  have v0 : vp_in (nI (7 * i)) 12250 := vp_in_nI (by omega) (by omega)
  have v1 : vp_in (nI (7 * i + 1)) 12250 := vp_in_nI (by omega) (by omega)
  have v2 : vp_in (nI (7 * i + 2)) 12250 := vp_in_nI (by omega) (by omega)
  have v3 : vp_in (nI (7 * i + 3)) 12250 := vp_in_nI (by omega) (by omega)
  have v4 : vp_in (nI (7 * i + 4)) 12250 := vp_in_nI (by omega) (by omega)
  have v5 : vp_in (nI (7 * i + 5)) 12250 := vp_in_nI (by omega) (by omega)
  have v6 : vp_in (nI (7 * i + 6)) 12250 := vp_in_nI (by omega) (by omega)
  have i30 : vp_in 0 3 := vp_in_nI (n := 0) (by omega) (by omega)
  have i31 : vp_in 1 3 := vp_in_nI (n := 1) (by omega) (by omega)
  have i32 : vp_in 2 3 := vp_in_nI (n := 2) (by omega) (by omega)
  have l30 : ((3 : Int32) ≤ 0) = False := by decide
  have l31 : ((3 : Int32) ≤ 1) = False := by decide
  have l32 : ((3 : Int32) ≤ 2) = False := by decide
  have l33 : ((3 : Int32) ≤ 3) = True := by decide
  have a0 : (0 : Int32) + 1 = 1 := by decide
  have a1 : (1 : Int32) + 1 = 2 := by decide
  have a2 : (2 : Int32) + 1 = 3 := by decide
  have u0 := up_d0 (D 0) (by omega) (D 1) (by omega) (D 2) (by omega)
  have u1 := up_d1 (D 0) (by omega) (D 1) (by omega) (D 2) (by omega)
  have u2 := up_d2 (D 0) (by omega) (D 1) (by omega) (D 2) (by omega)
  have u3 := up_h0 hH0 hH1
  have u4 := up_h1 hH0 hH1
  have eD : upd (upd (upd (mm_nD D') 0 (nI (D 0))) 1 (nI (D 1))) 2 (nI (D 2)) = mm_nD D :=
    mm_t3 (f := mm_nD D') (g := mm_nD D) (fun i hi => by rw [mm_nDa, mm_nDa, (hZ.2 i hi).2, show D i = 0 from (hW.2.2.2.1 i hi).2])
  have eR : upd (upd (upd R' 0 (R 0)) 1 (R 1)) 2 (R 2) = R :=
    mm_t3 (f := R') (g := R) (fun i hi => (hZ.2 i hi).1.trans (hW.2.2.2.1 i hi).1.symm)
  have eV : upd (upd V' 0 (V 0)) 1 (V 1) = V := mm_b2 (f := V') (g := V) (fun i hi => (hZ.1 i hi).1.trans (hW.2.2.1 i hi).1.symm)
  have eH : upd (upd H' 0 (H 0)) 1 (H 1) = H := mm_b2 (f := H') (g := H) (fun i hi => (hZ.1 i hi).2.trans (hW.2.2.1 i hi).2.symm)
  refine nm_r q0 ⟨4, ?_⟩
  simp only [wX_unpack_7, forall_eq, mm_nDa, true_and, and_true, true_implies, false_implies, not_false_eq_true, not_true_eq_false, mm_i10, eq_self, l30, l31, l32, l33, i30, i31, i32, mm_c0, mm_c1, mm_c2, a0, a1, a2, q1, q2, q6, q30, q31, q32, c0, c1, c2, c3, c4, c5, c6, v0, v1, v2, v3, v4, v5, v6, s0, s1, s2, s3, s4, s5, s6, u0, u1, u2, u3, u4, eD, eR, eV, eH]
  exact h
/-! an outcome noted -/
theorem xw_note74d {post : SX → Prop} {T : List MSt} {fd' : Int32} (hO : sr_O z T fo fd fg) (hl : T.length < 2000)
    (h : ∀ fg', (∀ v, v < 2 → oc_gr (T ++ [(V, R, H, D)]) v (fg' v)) → post (fc, ff, nI (T.length + 1), fd', mm_nD z, kd, nm, bg, mm_nD D, R, V, H, mm_nD ev, mm_nD eo, mm_nD eh, ol, mm_nD ck, mm_nD kc, mm_nD ep, mm_nD te, cu, fg', si, tb, pk)) :
    ∃ n74, wX_noteOutcome_74 post fc ff fo fd' n74 0 (mm_nD z) kd nm bg (mm_nD D) R V H (mm_nD ev) (mm_nD eo) (mm_nD eh) ol (mm_nD ck) (mm_nD kc) (mm_nD ep) (mm_nD te) cu fg si tb pk := by
  have key : ∀ d v fg', v + d = 2 → (∀ w, w < v → oc_gr (T ++ [(V, R, H, D)]) w (fg' w)) → (∀ w, v ≤ w → fg' w = fg w) → wX_noteOutcome_74 post fc ff fo fd' (d + 1) (nI v) (mm_nD z) kd nm bg (mm_nD D) R V H (mm_nD ev) (mm_nD eo) (mm_nD eh) ol (mm_nD ck) (mm_nD kc) (mm_nD ep) (mm_nD te) cu fg' si tb pk := by
    intro d
    induction d with
    | zero =>
      intro v fg' hv h1 h2
      have : v = 2 := by omega
      subst this
      rw [wX_noteOutcome_74]
      simp only [forall_eq, mm_nDa, true_and, and_true, true_implies, false_implies, not_false_eq_true, not_true_eq_false, mm_i10, eq_self, hO.1, nI_1]
      exact br_t (show (2 : Int32) ≤ nI 2 from by decide) (h fg' h1)
    | succ d ih =>
      intro v fg' hv h1 h2
      have ev' : (nI v).toNatClampNeg = v := nI_clamp (by omega)
      have vv : vp_in (nI v) 2 := vp_in_nI (by omega) (by omega)
      have hs : ∀ x, oc_gr (T ++ [(V, R, H, D)]) v x → wX_noteOutcome_74 post fc ff fo fd' (d + 1) (nI (v + 1)) (mm_nD z) kd nm bg (mm_nD D) R V H (mm_nD ev) (mm_nD eo) (mm_nD eh) ol (mm_nD ck) (mm_nD kc) (mm_nD ep) (mm_nD te) cu (upd fg' v x) si tb pk := by
        intro x hx
        refine ih (v + 1) _ (by omega) (fun w hw => ?_) (fun w hw => ?_)
        · by_cases e : w = v
          · subst e; rw [pk_us]; exact hx
          · rw [pk_un e]; exact h1 w (by omega)
        · rw [pk_un (by omega)]; exact h2 w (by omega)
      rw [wX_noteOutcome_74]
      simp only [wX_noteOutcome_106, forall_eq, mm_nDa, true_and, and_true, true_implies, false_implies, not_false_eq_true, not_true_eq_false, mm_i10, eq_self, ev', vv, nI_1]
      refine br_f (nI_ge (b := 2) (by omega) (by decide)) (br_c (fun a => ?_) (fun a => ?_))
      · have hT : T = [] := by
          rw [hO.1] at a
          have := (nI_eq (b := 0) (by omega) (by omega)).mp a
          exact List.eq_nil_of_length_eq_zero this
        refine hs _ ?_
        rw [hT]
        refine ⟨⟨(V, R, H, D), by simp, rfl⟩, fun s hs' => ?_⟩
        have : s = (V, R, H, D) := by simpa using hs'
        rw [this]
        exact Int32.le_refl _
      · have hT : T ≠ [] := fun w => a (by rw [hO.1, w]; rfl)
        have hg := hO.2.2 hT v (by omega)
        rw [← h2 v (Nat.le_refl _)] at hg
        refine br_c (fun b => hs _ ?_) (fun b => hs _ ?_)
        · obtain ⟨⟨s, hs1, hs2⟩, hs3⟩ := hg
          refine ⟨⟨s, List.mem_append_left _ hs1, hs2⟩, fun y hy => ?_⟩
          rcases List.mem_append.mp hy with w | w
          · exact hs3 y w
          · have : y = (V, R, H, D) := by simpa using w
            rw [this]; exact b
        · obtain ⟨⟨s, hs1, hs2⟩, hs3⟩ := hg
          have b' : fg' v < V v := Int32.not_le.mp b
          refine ⟨⟨(V, R, H, D), by simp, rfl⟩, fun y hy => ?_⟩
          rcases List.mem_append.mp hy with w | w
          · exact Int32.le_trans (hs3 y w) (Int32.le_of_lt b')
          · have : y = (V, R, H, D) := by simpa using w
            rw [this]; exact Int32.le_refl _
  exact ⟨3, key 2 0 fg (by omega) (fun w hw => absurd hw (Nat.not_lt_zero _)) (fun w _ => rfl)⟩
theorem xw_noteOutcome {post : SX → Prop} {T : List MSt} (hP : mm_P z kd nm) (hW : mm_W z kd nm (V, R, H, D)) (hO : sr_O z T fo fd fg) (hl : T.length < 2000)
    (h : ∀ fo' fd' fg', sr_O z (T ++ [(V, R, H, D)]) fo' fd' fg' → post (fc, ff, fo', fd', mm_nD z, kd, nm, bg, mm_nD D, R, V, H, mm_nD ev, mm_nD eo, mm_nD eh, ol, mm_nD ck, mm_nD kc, mm_nD ep, mm_nD te, cu, fg', si, tb, pk)) : wpX_noteOutcome post (fc, ff, fo, fd, mm_nD z, kd, nm, bg, mm_nD D, R, V, H, mm_nD ev, mm_nD eo, mm_nD eh, ol, mm_nD ck, mm_nD kc, mm_nD ep, mm_nD te, cu, fg, si, tb, pk) := by
  have z0 := hP.1 0 (by omega)
  have z1 := hP.1 1 (by omega)
  have z2 := hP.1 2 (by omega)
  have d0 : D 0 ≤ z 0 := hW.1 0 (by omega)
  have d1 : D 1 ≤ z 1 := hW.1 1 (by omega)
  have d2 : D 2 ≤ z 2 := hW.1 2 (by omega)
  have l0 : (nI (D 0) < nI (z 0)) = (D 0 < z 0) := propext (nI_ltI (by omega) (by omega))
  have l1 : (nI (D 1) < nI (z 1)) = (D 1 < z 1) := propext (nI_ltI (by omega) (by omega))
  have l2 : (nI (z 2) ≤ nI (D 2)) = (z 2 ≤ D 2) := propext (nI_leI (by omega) (by omega))
  have hlen : (T ++ [(V, R, H, D)]).length = T.length + 1 := by simp
  have h1 : oc_dead z (V, R, H, D) = true → wX_noteOutcome_45 post fc ff fo fd (mm_nD z) kd nm bg (mm_nD D) R V H (mm_nD ev) (mm_nD eo) (mm_nD eh) ol (mm_nD ck) (mm_nD kc) (mm_nD ep) (mm_nD te) cu fg si tb pk := fun q => by
    have hc : (T ++ [(V, R, H, D)]).countP (oc_dead z) = T.countP (oc_dead z) + 1 := by
      rw [List.countP_append, List.countP_singleton, if_pos q]
    unfold wX_noteOutcome_45 wX_noteOutcome_50
    refine br_f (by decide) (nm_e ?_)
    have k : ∀ fd' : Int32, fd' = fd + 1 → ∃ n74, wX_noteOutcome_74 post fc ff fo fd' n74 0 (mm_nD z) kd nm bg (mm_nD D) R V H (mm_nD ev) (mm_nD eo) (mm_nD eh) ol (mm_nD ck) (mm_nD kc) (mm_nD ep) (mm_nD te) cu fg si tb pk := fun fd' e => by
      refine xw_note74d hO hl (fun fg' hg => ?_)
      refine h _ _ _ ⟨by rw [hlen], ?_, fun _ => hg⟩
      rw [e, hO.2.1, hc, nI_1]
    exact k _ rfl
  have h0 : oc_dead z (V, R, H, D) = false → wX_noteOutcome_50 post 0 fc ff fo fd (mm_nD z) kd nm bg (mm_nD D) R V H (mm_nD ev) (mm_nD eo) (mm_nD eh) ol (mm_nD ck) (mm_nD kc) (mm_nD ep) (mm_nD te) cu fg si tb pk := fun q => by
    have hc : (T ++ [(V, R, H, D)]).countP (oc_dead z) = T.countP (oc_dead z) := by
      rw [List.countP_append, List.countP_singleton, if_neg (by rw [q]; decide)]
      omega
    unfold wX_noteOutcome_50
    refine br_t rfl ?_
    refine xw_note74d hO hl (fun fg' hg => ?_)
    exact h _ _ _ ⟨by rw [hlen], by rw [hc]; exact hO.2.1, fun _ => hg⟩
  simp only [wpX_noteOutcome, mm_nDa, l0, l1, l2]
  refine br_c (fun a => h1 (decide_eq_true (Or.inl a))) (fun a => br_c (fun b => h1 (decide_eq_true (Or.inr (Or.inl b)))) (fun b => br_c (fun c => h0 (decide_eq_false ?_)) (fun c => h1 (decide_eq_true (Or.inr (Or.inr ?_))))))
  · show ¬ (D 0 < z 0 ∨ D 1 < z 1 ∨ D 2 < z 2)
    omega
  · show D 2 < z 2
    omega
end
end
section
/-! X: the search -/
theorem sr_len {z : Nat → Nat} {kd nm : Nat → Int32} {s0 : MSt} {F : List MSt} (hP : mm_P z kd nm) (hW : mm_W z kd nm s0) (h : sr_S z kd nm s0 F) : F.length ≤ 1749 := oc_bound hP hW h.1 h.2.1
theorem sr_add {z : Nat → Nat} {kd nm : Nat → Int32} {s0 s : MSt} {F : List MSt} (h : sr_S z kd nm s0 F) (hs : s ∉ F) (hr : ∃ n, oc_P z kd nm n s0 s) : sr_S z kd nm s0 (F ++ [s]) := by
  refine ⟨?_, fun x hx => ?_, ?_⟩
  · refine List.nodup_append.mpr ⟨h.1, by simp, fun a ha b hb => ?_⟩
    have : b = s := by simpa using hb
    rw [this]
    exact fun e => hs (e ▸ ha)
  · rcases List.mem_append.mp hx with w | w
    · exact h.2.1 x w
    · have : x = s := by simpa using w
      rw [this]; exact hr
  · have h0 := h.2.2
    cases F with
    | nil => simp at h0
    | cons a F => simpa using h0
theorem sr_ext {F F' : List MSt} {i : Nat} (h : ∀ (j : Nat) (y : MSt), F[j]? = some y → F'[j]? = some y) (hi : i ≤ F.length) {s : MSt} : (∃ j, j < i ∧ F'[j]? = some s) ↔ (∃ j, j < i ∧ F[j]? = some s) := by
  constructor
  · rintro ⟨j, hj, e⟩
    have hx : F[j]? = some (F[j]'(by omega)) := List.getElem?_eq_getElem (by omega)
    have := h j _ hx
    rw [e] at this
    have e2 : s = F[j]'(by omega) := by simpa using this
    exact ⟨j, hj, by rw [hx, e2]⟩
  · rintro ⟨j, hj, e⟩
    exact ⟨j, hj, h j s e⟩
/-- the thread that X goes on by -/
def sr_on (z : Nat → Nat) (kd : Nat → Int32) (x : MSt) (k : Nat) (w : Int32) : Prop :=
  (w = -1 ∧ ∀ u, k ≤ u → u < 3 → oc_own z kd u x = false) ∨ (∃ t, k ≤ t ∧ t < 3 ∧ w = nI t ∧ oc_own z kd t x = true ∧ ∀ u, k ≤ u → u < t → oc_own z kd u x = false)
theorem sr_sel {z : Nat → Nat} {kd : Nat → Int32} {x : MSt} {w : Int32} {t : Nat} (h : sr_on z kd x 0 w) (ht : t < 3) : (w = -1 ∨ w = nI t) ↔ oc_sel z kd t x := by
  rcases h with ⟨rfl, h⟩ | ⟨u, _, hu, rfl, ho, hl⟩
  · exact ⟨fun _ => Or.inl fun u hu => h u (Nat.zero_le _) hu, fun _ => Or.inl rfl⟩
  · constructor
    · rintro (e | e)
      · exact absurd e.symm (mm_nIm hu)
      · have := (mm_nIe hu ht).mp e
        subst this
        exact Or.inr ⟨ho, fun w hw => hl w (Nat.zero_le _) hw⟩
    · rintro (e | ⟨e, e2⟩)
      · rw [e u hu] at ho
        exact absurd ho (by decide)
      · refine Or.inr ?_
        rcases Nat.lt_trichotomy u t with q | q | q
        · rw [e2 u q] at ho; exact absurd ho (by decide)
        · rw [q]
        · rw [hl t (Nat.zero_le _) q] at e; exact absurd e (by decide)
/-- no step taken means: terminal -/
theorem sr_term {z : Nat → Nat} {kd nm : Nat → Int32} {x : MSt} (h : ∀ u, u < 3 → ¬ (mm_en z kd nm u x = true ∧ oc_sel z kd u x)) : oc_t z kd nm x = true := by
  refine oc_t_iff.mpr fun t ht => Bool.eq_false_iff.mpr fun e => ?_
  by_cases q : ∃ t, t < 3 ∧ oc_own z kd t x = true
  · obtain ⟨t', ht', ho⟩ := q
    obtain ⟨u, hut, hu, hl⟩ := oc_least (fun t => oc_own z kd t x = true) t' ho
    exact h u (by omega) ⟨oc_own_en hu, Or.inr ⟨hu, fun w hw => Bool.eq_false_iff.mpr (hl w hw)⟩⟩
  · exact h t ht ⟨e, Or.inl fun u hu => Bool.eq_false_iff.mpr fun w => q ⟨u, hu, w⟩⟩
section
variable {z D ev eo eh ck kc ep te : Nat → Nat} {kd nm bg R V H ol cu fg si tb pk : Nat → Int32} {n : Nat} {fc ff fo fd : Int32}
section
variable {s0 : MSt} {F0 T : List MSt} {i : Nat} {post : SX → Prop}
theorem xw_go42 {w : Int32} (hP : mm_P z kd nm) (hW0 : mm_W z kd nm s0) (hW : mm_W z kd nm (V, R, H, D)) (hon : sr_on z kd (V, R, H, D) 0 w) (hO : sr_O z T fo fd fg) (hTl : T.length < 2000)
    (h : ∀ F' si tb pk V' R' H' D' fo' fd' fg', sr_S z kd nm s0 F' → sr_H F' si tb → (∀ (j : Nat) (y : MSt), F0[j]? = some y → F'[j]? = some y) → oc_cl z kd nm (fun s => s ∈ F') (V, R, H, D) → mm_Z V' R' H' D' →
      ((oc_t z kd nm (V, R, H, D) = true ∧ sr_O z (T ++ [(V, R, H, D)]) fo' fd' fg') ∨ (oc_t z kd nm (V, R, H, D) = false ∧ fo' = fo ∧ fd' = fd ∧ fg' = fg)) → post (fc, nI F'.length, fo', fd', mm_nD z, kd, nm, bg, mm_nD D', R', V', H', mm_nD ev, mm_nD eo, mm_nD eh, ol, mm_nD ck, mm_nD kc, mm_nD ep, mm_nD te, cu, fg', si, tb, pk)) :
    ∀ d t F any V' R' H' D' pk si tb, t + d = 3 → sr_S z kd nm s0 F → sr_H F si tb → (∀ (j : Nat) (y : MSt), F0[j]? = some y → F[j]? = some y) → F[i]? = some (V, R, H, D) → mm_Z V' R' H' D' →
      ((any = 1 ∧ ∃ u, u < t ∧ mm_en z kd nm u (V, R, H, D) = true ∧ oc_sel z kd u (V, R, H, D)) ∨ (any = 0 ∧ ∀ u, u < t → ¬ (mm_en z kd nm u (V, R, H, D) = true ∧ oc_sel z kd u (V, R, H, D)))) →
      (∀ u, u < t → mm_en z kd nm u (V, R, H, D) = true → oc_sel z kd u (V, R, H, D) → mm_stp kd nm u (V, R, H, D) ∈ F) →
      wX_goOnFrom_42 post (nI i) w (d + 1) any (nI t) fc (nI F.length) fo fd (mm_nD z) kd nm bg (mm_nD D') R' V' H' (mm_nD ev) (mm_nD eo) (mm_nD eh) ol (mm_nD ck) (mm_nD kc) (mm_nD ep) (mm_nD te) cu fg si tb pk := by
  intro d
  induction d with
  | zero =>
    intro t F any V' R' H' D' pk si tb ht hS hH hX hi hZ ha hcl
    have : t = 3 := by omega
    subst this
    have hlen := sr_len hP hW0 hS
    have hil : i < F.length := by
      apply Nat.lt_of_not_le
      intro q
      rw [List.getElem?_eq_none q] at hi
      exact absurd hi (by simp)
    refine br_t (show (3 : Int32) ≤ nI 3 from by decide) ?_
    rcases ha with ⟨rfl, u, hu, he, hs⟩ | ⟨rfl, ha⟩
    · refine br_f (by decide) (h F si tb pk V' R' H' D' fo fd fg hS hH hX hcl hZ (Or.inr ⟨?_, rfl, rfl, rfl⟩))
      refine Bool.eq_false_iff.mpr fun q => ?_
      rw [oc_t_iff.mp q u hu] at he
      exact absurd he (by decide)
    · refine br_t rfl (xw_unpack (by omega) (hH.1 i _ hi) hP hW hZ ?_)
      refine xw_noteOutcome hP hW hO hTl (fun fo' fd' fg' hO' => ?_)
      exact h F si tb pk V R H D fo' fd' fg' hS hH hX hcl (mm_WZ hW) (Or.inl ⟨sr_term ha, hO'⟩)
  | succ d ih =>
    intro t F any V' R' H' D' pk si tb ht hS hH hX hi hZ ha hcl
    have hlen := sr_len hP hW0 hS
    have hil : i < F.length := by
      apply Nat.lt_of_not_le
      intro q
      rw [List.getElem?_eq_none q] at hi
      exact absurd hi (by simp)
    have ht3 : t < 3 := by omega
    have hmem : (V, R, H, D) ∈ F := List.mem_iff_getElem?.mpr ⟨i, hi⟩
    have hskip : ¬ (mm_en z kd nm t (V, R, H, D) = true ∧ oc_sel z kd t (V, R, H, D)) → wX_goOnFrom_42 post (nI i) w (d + 1) any (nI (t + 1)) fc (nI F.length) fo fd (mm_nD z) kd nm bg (mm_nD D) R V H (mm_nD ev) (mm_nD eo) (mm_nD eh) ol (mm_nD ck) (mm_nD kc) (mm_nD ep) (mm_nD te) cu fg si tb pk := fun q => by
      refine ih (t + 1) F any V R H D pk si tb (by omega) hS hH hX hi (mm_WZ hW) ?_ (fun u hu he hs => ?_)
      · rcases ha with ⟨rfl, u, hu, he, hs⟩ | ⟨rfl, ha⟩
        · exact Or.inl ⟨rfl, u, by omega, he, hs⟩
        · refine Or.inr ⟨rfl, fun u hu => ?_⟩
          by_cases e : u = t
          · subst e; exact q
          · exact ha u (by omega)
      · by_cases e : u = t
        · subst e; exact absurd ⟨he, hs⟩ q
        · exact hcl u (by omega) he hs
    rw [wX_goOnFrom_42]
    refine br_f (nI_ge (b := 3) (by omega) (by decide)) (xw_unpack (by omega) (hH.1 i _ hi) hP hW hZ ?_)
    refine xw_isEnabled ht3 hP (hW.1 t ht3) (fun he => br_f (by decide) ?_) (fun he => br_t rfl (nm_r (nI_1 t) (hskip fun q => by rw [he] at q; exact absurd q.1 (by decide))))
    have h73 : oc_sel z kd t (V, R, H, D) → wX_goOnFrom_73 post (wX_goOnFrom_42 post (nI i) w (d + 1)) (nI i) w (nI t) fc (nI F.length) fo fd (mm_nD z) kd nm bg (mm_nD D) R V H (mm_nD ev) (mm_nD eo) (mm_nD eh) ol (mm_nD ck) (mm_nD kc) (mm_nD ep) (mm_nD te) cu fg si tb pk := fun hs => by
      unfold wX_goOnFrom_73
      refine xw_perform ht3 hP (mm_lt hW ht3 he) (fun V1 R1 H1 D1 hstp => ?_)
      have hW1 : mm_W z kd nm (V1, R1, H1, D1) := by rw [← hstp]; exact mm_W_stp hP hW ht3 he
      refine xw_packNow (fun pk' hpk => ?_)
      have hr : ∃ n, oc_P z kd nm n s0 (V1, R1, H1, D1) := by
        obtain ⟨n, hn⟩ := hS.2.1 _ hmem
        exact ⟨n + 1, by rw [← hstp]; exact oc_P_end s0 hn t ht3 he⟩
      refine xw_addPacked (F := F) (s := (V1, R1, H1, D1)) hP hpk hW1 (fun x hx => ?_) hH (by omega) (fun hns => by omega) (fun hin => ?_) (fun hns si' tb' hH' => ?_)
      · obtain ⟨n, hn⟩ := hS.2.1 x hx
        exact oc_P_W hP s0 hW0 hn
      · refine nm_r (nI_1 t) (ih (t + 1) F 1 V1 R1 H1 D1 pk' si tb (by omega) hS hH hX hi (mm_WZ hW1) (Or.inl ⟨rfl, t, by omega, he, hs⟩) (fun u hu he' hs' => ?_))
        by_cases e : u = t
        · subst e; rw [hstp]; exact hin
        · exact hcl u (by omega) he' hs'
      · have hlen' : (F ++ [(V1, R1, H1, D1)]).length = F.length + 1 := by simp
        refine nm_r (nI_1 t) ?_
        have hh := ih (t + 1) (F ++ [(V1, R1, H1, D1)]) 1 V1 R1 H1 D1 pk' si' tb' (by omega) (sr_add hS hns hr) hH' (fun j y hy => ?_) (by rw [List.getElem?_append_left hil]; exact hi) (mm_WZ hW1) (Or.inl ⟨rfl, t, by omega, he, hs⟩) (fun u hu he' hs' => ?_)
        · rw [hlen'] at hh
          exact hh
        · have hy' := hX j y hy
          have hjl : j < F.length := by
            apply Nat.lt_of_not_le
            intro q
            rw [List.getElem?_eq_none q] at hy'
            exact absurd hy' (by simp)
          rw [List.getElem?_append_left hjl]
          exact hy'
        · by_cases e : u = t
          · subst e; rw [hstp]; exact List.mem_append_right _ (by simp)
          · exact List.mem_append_left _ (hcl u (by omega) he' hs')
    refine br_c (fun a => h73 ((sr_sel hon ht3).mp (Or.inl a))) (fun a => br_c (fun b => h73 ((sr_sel hon ht3).mp (Or.inr b))) (fun b => nm_r (nI_1 t) (hskip fun q => ?_)))
    rcases (sr_sel hon ht3).mpr q.2 with c | c
    · exact a c
    · exact b c
theorem xw_goOnFrom {V0 R0 H0 : Nat → Int32} {D0 : Nat → Nat} (hP : mm_P z kd nm) (hW0 : mm_W z kd nm s0) (hW : mm_W z kd nm (V, R, H, D)) (hO : sr_O z T fo fd fg) (hTl : T.length < 2000) (hS : sr_S z kd nm s0 F0) (hH : sr_H F0 si tb) (hi : F0[i]? = some (V, R, H, D)) (hZ : mm_Z V0 R0 H0 D0)
    (h : ∀ F' si tb pk V' R' H' D' fo' fd' fg', sr_S z kd nm s0 F' → sr_H F' si tb → (∀ (j : Nat) (y : MSt), F0[j]? = some y → F'[j]? = some y) → oc_cl z kd nm (fun s => s ∈ F') (V, R, H, D) → mm_Z V' R' H' D' →
      ((oc_t z kd nm (V, R, H, D) = true ∧ sr_O z (T ++ [(V, R, H, D)]) fo' fd' fg') ∨ (oc_t z kd nm (V, R, H, D) = false ∧ fo' = fo ∧ fd' = fd ∧ fg' = fg)) → post (fc, nI F'.length, fo', fd', mm_nD z, kd, nm, bg, mm_nD D', R', V', H', mm_nD ev, mm_nD eo, mm_nD eh, ol, mm_nD ck, mm_nD kc, mm_nD ep, mm_nD te, cu, fg', si, tb, pk)) :
    wpX_goOnFrom post (fc, nI F0.length, fo, fd, mm_nD z, kd, nm, bg, mm_nD D0, R0, V0, H0, mm_nD ev, mm_nD eo, mm_nD eh, ol, mm_nD ck, mm_nD kc, mm_nD ep, mm_nD te, cu, fg, si, tb, pk) (nI i) := by
  have hlen := sr_len hP hW0 hS
  have hil : i < F0.length := by
    apply Nat.lt_of_not_le
    intro q
    rw [List.getElem?_eq_none q] at hi
    exact absurd hi (by simp)
  have key : ∀ k w, k ≤ 3 → sr_on z kd (V, R, H, D) k w → wX_goOnFrom_9 post (nI i) fc (nI F0.length) fo fd (mm_nD z) kd nm bg (mm_nD D) R V H (mm_nD ev) (mm_nD eo) (mm_nD eh) ol (mm_nD ck) (mm_nD kc) (mm_nD ep) (mm_nD te) cu fg si tb pk (k + 1) w (nI k + (-1)) := by
    intro k
    induction k with
    | zero =>
      intro w _ hon
      refine br_t (show nI 0 + (-1) < 0 from by decide) ⟨4, ?_⟩
      exact xw_go42 hP hW0 hW hon hO hTl h 3 0 F0 0 V R H D pk si tb (by omega) hS hH (fun _ _ a => a) hi (mm_WZ hW) (Or.inr ⟨rfl, fun u hu => absurd hu (Nat.not_lt_zero _)⟩) (fun u hu => absurd hu (Nat.not_lt_zero _))
    | succ k ih =>
      intro w hk hon
      rw [pk_m1, wX_goOnFrom_9]
      refine br_f (nI_pos (by omega)) (xw_isOwn (by omega) hP (hW.1 k (by omega)) (fun ho => br_f (by decide) (nm_e (ih _ (by omega) ?_))) (fun ho => br_t rfl (nm_e (ih _ (by omega) ?_))))
      · exact Or.inr ⟨k, Nat.le_refl _, by omega, rfl, ho, fun u h1 h2 => by omega⟩
      · rcases hon with ⟨e, hn⟩ | ⟨t, h1, h2, h3, h4, h5⟩
        · refine Or.inl ⟨e, fun u hu h3 => ?_⟩
          by_cases q : u = k
          · subst q; exact ho
          · exact hn u (by omega) h3
        · refine Or.inr ⟨t, by omega, h2, h3, h4, fun u h6 h7 => ?_⟩
          by_cases q : u = k
          · subst q; exact ho
          · exact h5 u (by omega) h7
  unfold wpX_goOnFrom
  dsimp only
  refine xw_unpack (by omega) (hH.1 i _ hi) hP hW hZ ⟨4, ?_⟩
  exact key 3 (-1) (by omega) (Or.inl ⟨rfl, fun u h1 h2 => by omega⟩)
end
theorem xw_search47 {post : SX → Prop} (hP : mm_P z kd nm) (hW : mm_W z kd nm (V, R, H, D))
    (h : ∀ T ff fo fd fg si tb pk, oc_Out z kd nm (V, R, H, D) T → sr_O z T fo fd fg → post (fc, ff, fo, fd, mm_nD z, kd, nm, bg, mm_nD D, R, V, H, mm_nD ev, mm_nD eo, mm_nD eh, ol, mm_nD ck, mm_nD kc, mm_nD ep, mm_nD te, cu, fg, si, tb, pk)) :
    ∀ d i F T V' R' H' D' fo fd fg si tb pk, i + d = 1750 → i ≤ F.length → sr_S z kd nm (V, R, H, D) F → sr_H F si tb → mm_Z V' R' H' D' → sr_O z T fo fd fg →
      (∀ s, (∃ j, j < i ∧ F[j]? = some s) → oc_cl z kd nm (fun s => s ∈ F) s) → T.Nodup → (∀ s, s ∈ T ↔ (oc_t z kd nm s = true ∧ ∃ j, j < i ∧ F[j]? = some s)) →
      wX_search_47 post (d + 1) (nI i) fc (nI F.length) fo fd (mm_nD z) kd nm bg (mm_nD D') R' V' H' (mm_nD ev) (mm_nD eo) (mm_nD eh) ol (mm_nD ck) (mm_nD kc) (mm_nD ep) (mm_nD te) cu fg si tb pk := by
  intro d
  have hend : ∀ i F T V' R' H' D' fo fd fg si tb pk, F.length ≤ i → sr_S z kd nm (V, R, H, D) F → sr_H F si tb → mm_Z V' R' H' D' → sr_O z T fo fd fg →
      (∀ s, (∃ j, j < i ∧ F[j]? = some s) → oc_cl z kd nm (fun s => s ∈ F) s) → T.Nodup → (∀ s, s ∈ T ↔ (oc_t z kd nm s = true ∧ ∃ j, j < i ∧ F[j]? = some s)) →
      wX_search_73 post fc (nI F.length) fo fd (mm_nD z) kd nm bg (mm_nD D') R' V' H' (mm_nD ev) (mm_nD eo) (mm_nD eh) ol (mm_nD ck) (mm_nD kc) (mm_nD ep) (mm_nD te) cu fg si tb pk := by
    intro i F T V' R' H' D' fo fd fg si tb pk hl hS hH hZ hO hc hn hT
    unfold wX_search_73
    refine xw_unpack (i := 0) (by omega) (hH.1 0 _ hS.2.2) hP hW hZ (h T (nI F.length) fo fd fg si tb pk ⟨hn, fun s => (hT s).trans ?_⟩ hO)
    have hmem : ∀ s, s ∈ F → ∃ j, j < i ∧ F[j]? = some s := by
      intro s hs
      obtain ⟨j, hj⟩ := List.mem_iff_getElem?.mp hs
      refine ⟨j, ?_, hj⟩
      apply Nat.lt_of_not_le
      intro q
      rw [List.getElem?_eq_none (by omega)] at hj
      exact absurd hj (by simp)
    constructor
    · rintro ⟨a, j, _, hj⟩
      exact ⟨a, hS.2.1 s (List.mem_iff_getElem?.mpr ⟨j, hj⟩)⟩
    · rintro ⟨a, n, hn⟩
      refine ⟨a, hmem s ?_⟩
      exact oc_closed (F := fun s => s ∈ F) (fun s hs => hc s (hmem s hs)) a n (V, R, H, D) (List.mem_iff_getElem?.mpr ⟨0, hS.2.2⟩) hn
  induction d with
  | zero =>
    intro i F T V' R' H' D' fo fd fg si tb pk hi hil hS hH hZ hO hc hn hT
    have hlen := sr_len hP hW hS
    exact br_t (nI_le (by omega) (by omega)) (hend i F T V' R' H' D' fo fd fg si tb pk (by omega) hS hH hZ hO hc hn hT)
  | succ d ih =>
    intro i F T V' R' H' D' fo fd fg si tb pk hi hil hS hH hZ hO hc hn hT
    have hlen := sr_len hP hW hS
    by_cases q : F.length ≤ i
    · exact br_t (nI_le q (by omega)) (hend i F T V' R' H' D' fo fd fg si tb pk q hS hH hZ hO hc hn hT)
    · have hTl : T.length < 2000 := by
        have : T.length ≤ F.length := List.Nodup.length_le_of_subset hn (fun s hs => by
          obtain ⟨_, j, _, hj⟩ := (hT s).mp hs
          exact List.mem_iff_getElem?.mpr ⟨j, hj⟩)
        omega
      obtain ⟨V1, R1, H1, D1, hx⟩ : ∃ V1 R1 H1 D1, F[i]? = some (V1, R1, H1, D1) := ⟨_, _, _, _, List.getElem?_eq_getElem (by omega)⟩
      have hW1 : mm_W z kd nm (V1, R1, H1, D1) := by
        obtain ⟨n, hn⟩ := hS.2.1 _ (List.mem_iff_getElem?.mpr ⟨i, hx⟩)
        exact oc_P_W hP _ hW hn
      rw [wX_search_47]
      refine br_f (nI_ge (by omega) (by omega)) (br_f (nI_ge (b := 1750) (by omega) (by decide)) ?_)
      refine xw_goOnFrom (s0 := (V, R, H, D)) (T := T) hP hW hW1 hO hTl hS hH hx hZ (fun F' si tb pk V2 R2 H2 D2 fo' fd' fg' hS' hH' hX hcl hZ' hor => nm_r (nI_1 i) ?_)
      have hx' := hX i _ hx
      have hil' : i + 1 ≤ F'.length := by
        apply Nat.lt_of_not_le
        intro q
        rw [List.getElem?_eq_none q] at hx'
        exact absurd hx' (by simp)
      have hsub : ∀ s, s ∈ F → s ∈ F' := fun s hs => by
        obtain ⟨j, hj⟩ := List.mem_iff_getElem?.mp hs
        exact List.mem_iff_getElem?.mpr ⟨j, hX j s hj⟩
      have hc' : ∀ s, (∃ j, j < i + 1 ∧ F'[j]? = some s) → oc_cl z kd nm (fun s => s ∈ F') s := by
        rintro s ⟨j, hj, e⟩
        by_cases w : j = i
        · subst w
          rw [hx'] at e
          have : (V1, R1, H1, D1) = s := by simpa using e
          rw [← this]
          exact hcl
        · have hs := (sr_ext hX (i := i) (by omega) (s := s)).mp ⟨j, by omega, e⟩
          exact fun t ht he hsel => hsub _ (hc s hs t ht he hsel)
      have hex : ∀ s, (∃ j, j < i + 1 ∧ F'[j]? = some s) ↔ ((∃ j, j < i ∧ F[j]? = some s) ∨ s = (V1, R1, H1, D1)) := by
        intro s
        constructor
        · rintro ⟨j, hj, e⟩
          by_cases w : j = i
          · subst w
            rw [hx'] at e
            exact Or.inr (by simpa using e.symm)
          · exact Or.inl ((sr_ext hX (i := i) (by omega) (s := s)).mp ⟨j, by omega, e⟩)
        · rintro (⟨j, hj, e⟩ | e)
          · exact ⟨j, by omega, hX j s e⟩
          · exact ⟨i, by omega, by rw [e]; exact hx'⟩
      rcases hor with ⟨ht, hO'⟩ | ⟨ht, rfl, rfl, rfl⟩
      · refine ih (i + 1) F' (T ++ [(V1, R1, H1, D1)]) V2 R2 H2 D2 fo' fd' fg' si tb pk (by omega) hil' hS' hH' hZ' hO' hc' ?_ (fun s => ?_)
        · refine List.nodup_append.mpr ⟨hn, by simp, fun a ha b hb => ?_⟩
          have hb' : b = (V1, R1, H1, D1) := by simpa using hb
          rw [hb']
          intro e
          obtain ⟨_, j, hj, e2⟩ := (hT a).mp ha
          rw [e, ← hx] at e2
          have := (List.getElem?_inj (by omega) hS.1).mp e2
          omega
        · rw [List.mem_append, hT s, hex s]
          constructor
          · rintro (⟨a, b⟩ | a)
            · exact ⟨a, Or.inl b⟩
            · have : s = (V1, R1, H1, D1) := by simpa using a
              rw [this]; exact ⟨ht, Or.inr rfl⟩
          · rintro ⟨a, b | b⟩
            · exact Or.inl ⟨a, b⟩
            · exact Or.inr (by rw [b]; simp)
      · refine ih (i + 1) F' T V2 R2 H2 D2 _ _ _ si tb pk (by omega) hil' hS' hH' hZ' hO hc' hn (fun s => ?_)
        rw [hT s, hex s]
        constructor
        · rintro ⟨a, b⟩
          exact ⟨a, Or.inl b⟩
        · rintro ⟨a, b | b⟩
          · exact ⟨a, b⟩
          · rw [b, ht] at a; exact absurd a (by decide)
theorem xw_search {post : SX → Prop} (hP : mm_P z kd nm) (hW : mm_W z kd nm (V, R, H, D))
    (h : ∀ T ff fo fd fg si tb pk, oc_Out z kd nm (V, R, H, D) T → sr_O z T fo fd fg → post (fc, ff, fo, fd, mm_nD z, kd, nm, bg, mm_nD D, R, V, H, mm_nD ev, mm_nD eo, mm_nD eh, ol, mm_nD ck, mm_nD kc, mm_nD ep, mm_nD te, cu, fg, si, tb, pk)) : wpX_search post (fc, ff, fo, fd, mm_nD z, kd, nm, bg, mm_nD D, R, V, H, mm_nD ev, mm_nD eo, mm_nD eh, ol, mm_nD ck, mm_nD kc, mm_nD ep, mm_nD te, cu, fg, si, tb, pk) := by
  have key : ∀ d k tb, k + d = 4096 → (∀ q, q < k → tb q = 0) → wX_search_2 post fc ff fo fd (d + 1) (nI k) (mm_nD z) kd nm bg (mm_nD D) R V H (mm_nD ev) (mm_nD eo) (mm_nD eh) ol (mm_nD ck) (mm_nD kc) (mm_nD ep) (mm_nD te) cu fg si tb pk := by
    intro d
    induction d with
    | zero =>
      intro k tb hk h0
      have : k = 4096 := by omega
      subst this
      refine br_t (show (4096 : Int32) ≤ nI 4096 from by decide) (xw_packNow (fun pk' hpk => ?_))
      refine xw_addPacked (F := []) (s := (V, R, H, D)) hP hpk hW (fun x hx => absurd hx (by simp)) (ht_nil h0 si) (by simp) (fun _ => by simp) (fun hin => absurd hin (by simp)) (fun _ si' tb' hH' => ⟨1751, ?_⟩)
      refine xw_search47 hP hW h 1750 0 [(V, R, H, D)] [] V R H D 0 0 fg si' tb' pk' (by omega) (Nat.zero_le _) ⟨by simp, fun s hs => ?_, rfl⟩ hH' (mm_WZ hW) ⟨rfl, rfl, fun w => absurd rfl w⟩ (fun s ⟨j, hj, _⟩ => absurd hj (Nat.not_lt_zero _)) (by simp) (fun s => ⟨fun w => absurd w (by simp), fun ⟨_, j, hj, _⟩ => absurd hj (Nat.not_lt_zero _)⟩)
      have : s = (V, R, H, D) := by simpa using hs
      exact ⟨0, this.symm⟩
    | succ d ih =>
      intro k tb hk h0
      have ek : (nI k).toNatClampNeg = k := nI_clamp (by omega)
      have vk : vp_in (nI k) 4096 := vp_in_nI (by omega) (by omega)
      rw [wX_search_2]
      simp only [forall_eq, mm_nDa, true_and, and_true, true_implies, false_implies, not_false_eq_true, not_true_eq_false, mm_i10, eq_self, ek, vk, nI_1]
      refine br_f (nI_ge (b := 4096) (by omega) (by decide)) (ih (k + 1) _ (by omega) (fun q hq => ?_))
      by_cases e : q = k
      · subst e; rw [pk_us]
      · rw [pk_un e]; exact h0 q (by omega)
  exact ⟨4097, key 4096 0 tb (by omega) (fun q hq => absurd hq (Nat.not_lt_zero _))⟩
theorem xw_searchAll {post : SX → Prop} (hP : mm_P z kd nm) (hO : ev_Ok z kd nm bg ev n) (hS : ev_S kd nm bg ev n = (V, R, H, D))
    (h : ∀ T ff fo fd fg si tb pk, oc_Out z kd nm (ev_S kd nm bg ev 0) T → sr_O z T fo fd fg → post (nI n, ff, fo, fd, mm_nD z, kd, nm, bg, mm_nD D, R, V, H, mm_nD ev, mm_nD eo, mm_nD eh, ol, mm_nD ck, mm_nD kc, mm_nD ep, mm_nD te, cu, fg, si, tb, pk)) : wpX_searchAll post (nI n, ff, fo, fd, mm_nD z, kd, nm, bg, mm_nD D, R, V, H, mm_nD ev, mm_nD eo, mm_nD eh, ol, mm_nD ck, mm_nD kc, mm_nD ep, mm_nD te, cu, fg, si, tb, pk) := by
  have h8 := ev_n8 hP hO
  have hW := ev_W hP hO n (Nat.le_refl _)
  rw [hS] at hW
  unfold wpX_searchAll
  dsimp only
  refine xw_again hW.2.2.1 hW.2.2.2.1 hO.1 ?_
  refine xw_search hP (ev_W0 (ev := ev) hO.1) (fun T ff fo fd fg si tb pk hOut hsO => ?_)
  have key : ∀ d i V' R' H' D', i + d = n → ev_S kd nm bg ev i = (V', R', H', D') → wX_searchAll_15 post (nI n) (d + 1) (nI i) 0 ff fo fd (mm_nD z) kd nm bg (mm_nD D') R' V' H' (mm_nD ev) (mm_nD eo) (mm_nD eh) ol (mm_nD ck) (mm_nD kc) (mm_nD ep) (mm_nD te) cu fg si tb pk := by
    intro d
    induction d with
    | zero =>
      intro i V' R' H' D' hi e
      have : i = n := by omega
      subst this
      rw [hS] at e
      cases e
      exact br_t (nI_le (Nat.le_refl _) (by omega)) (h T ff fo fd fg si tb pk hOut hsO)
    | succ d ih =>
      intro i V' R' H' D' hi e
      have ei : (nI i).toNatClampNeg = i := nI_clamp (by omega)
      have vi : vp_in (nI i) 12 := vp_in_nI (by omega) (by omega)
      have ti := (hO.2 i (by omega)).1
      have he := (hO.2 i (by omega)).2
      have hWi := ev_W hP hO i (by omega)
      rw [e] at he hWi
      rw [wX_searchAll_15]
      refine br_f (nI_ge (by omega) (by omega)) ⟨vi, ?_⟩
      dsimp only
      rw [ei, mm_nDa]
      refine xw_perform ti hP (mm_lt hWi ti he) (fun V2 R2 H2 D2 hs => nm_r (nI_1 i) (ih (i + 1) V2 R2 H2 D2 (by omega) ?_))
      rw [ev_S, e]
      exact hs
  exact ⟨n + 1, key n 0 _ _ _ _ (by omega) rfl⟩
end
end
section
/-! Y: what is noted of an outcome -/
def ky_lo (z : Nat → Nat) (s : MSt) : Nat := 8 * (8 * (z 0 - s.2.2.2 0) + (z 1 - s.2.2.2 1)) + (z 2 - s.2.2.2 2)
def ky_k (z : Nat → Nat) (s : MSt) (j : Nat) : Int32 :=
  if j = 0 then s.1 0 else if j = 1 then s.1 1 else if j = 2 then s.2.1 0 else if j = 3 then s.2.1 1 else if j = 4 then s.2.1 2 else nI (ky_lo z s)
section
variable {z : Nat → Nat} {kd nm : Nat → Int32}
theorem ky_lt {s : MSt} (hP : mm_P z kd nm) : ky_lo z s < 1000 := by
  have z0 := hP.1 0 (by omega)
  have z1 := hP.1 1 (by omega)
  have z2 := hP.1 2 (by omega)
  unfold ky_lo
  omega
theorem ky_inj {s s' : MSt} (hP : mm_P z kd nm) (hW : mm_W z kd nm s) (hW' : mm_W z kd nm s') (h : ∀ j, j < 6 → ky_k z s j = ky_k z s' j) : s = s' := by
  have z0 := hP.1 0 (by omega)
  have z1 := hP.1 1 (by omega)
  have z2 := hP.1 2 (by omega)
  have a0 := hW.1 0 (by omega)
  have a1 := hW.1 1 (by omega)
  have a2 := hW.1 2 (by omega)
  have b0 := hW'.1 0 (by omega)
  have b1 := hW'.1 1 (by omega)
  have b2 := hW'.1 2 (by omega)
  have l := ky_lt (s := s) hP
  have l' := ky_lt (s := s') hP
  have e0 : nI (ky_lo z s) = nI (ky_lo z s') := h 5 (by omega)
  have e0' := (nI_eq (by omega) (by omega)).mp e0
  unfold ky_lo at e0'
  refine mm_ext hW hW' (fun i hi => ?_) (fun i hi => ?_) (fun i hi => ?_)
  · rcases (by omega : i = 0 ∨ i = 1) with rfl | rfl
    · exact h 0 (by omega)
    · exact h 1 (by omega)
  · rcases (by omega : i = 0 ∨ i = 1 ∨ i = 2) with rfl | rfl | rfl
    · exact h 2 (by omega)
    · exact h 3 (by omega)
    · exact h 4 (by omega)
  · rcases (by omega : i = 0 ∨ i = 1 ∨ i = 2) with rfl | rfl | rfl <;> omega
theorem ky_dead {s : MSt} (hW : mm_W z kd nm s) : oc_dead z s = true ↔ 0 < ky_lo z s := by
  have a0 := hW.1 0 (by omega)
  have a1 := hW.1 1 (by omega)
  have a2 := hW.1 2 (by omega)
  unfold oc_dead ky_lo
  rw [decide_eq_true_iff]
  omega
end
/-- what Y keeps of the outcomes found -/
def yn_L (z : Nat → Nat) (kd nm : Nat → Int32) (L : List MSt) (gf gd : Int32) (yf : Nat → Int32) : Prop :=
  L.Nodup ∧ (∀ s, s ∈ L → mm_W z kd nm s) ∧ gf = nI L.length ∧ gd = nI (L.countP (oc_dead z)) ∧ ∀ (i : Nat) (s : MSt), L[i]? = some s → ∀ j, j < 6 → yf (6 * i + j) = ky_k z s j
section
variable {z D yd : Nat → Nat} {kd nm bg R V H yo rl sm kp tr yf : Nat → Int32} {n : Nat} {gc gf gd : Int32}
theorem yw_leftOver {post : Int32 → Prop} (hP : mm_P z kd nm) (hW : mm_W z kd nm (V, R, H, D)) (h : post (nI (ky_lo z (V, R, H, D)))) : wpY_leftOver post (gc, gf, gd, kd, nm, mm_nD z, bg, V, R, H, mm_nD D, mm_nD yd, yo, rl, sm, kp, tr, yf) := by
  have z0 := hP.1 0 (by omega)
  have z1 := hP.1 1 (by omega)
  have z2 := hP.1 2 (by omega)
  have d0 : D 0 ≤ z 0 := hW.1 0 (by omega)
  have d1 : D 1 ≤ z 1 := hW.1 1 (by omega)
  have d2 : D 2 ≤ z 2 := hW.1 2 (by omega)
  have g : ∀ x a b : Nat, b ≤ a → (8 : Int32) * nI x + nI a - nI b = nI (8 * x + (a - b)) := by
    intro x a b hb
    rw [mm_8, pk_sub (by omega)]
    exact congrArg nI (by omega)
  have e0 : (8 : Int32) * 0 + nI (z 0) - nI (D 0) = nI (z 0 - D 0) := by
    have := g 0 (z 0) (D 0) d0
    rw [show 8 * 0 + (z 0 - D 0) = z 0 - D 0 from by omega] at this
    exact this
  have e1 := g (z 0 - D 0) (z 1) (D 1) d1
  have e2 := g (8 * (z 0 - D 0) + (z 1 - D 1)) (z 2) (D 2) d2
  have i30 : vp_in 0 3 := vp_in_nI (n := 0) (by omega) (by omega)
  have i31 : vp_in 1 3 := vp_in_nI (n := 1) (by omega) (by omega)
  have i32 : vp_in 2 3 := vp_in_nI (n := 2) (by omega) (by omega)
  have l30 : ((3 : Int32) ≤ 0) = False := by decide
  have l31 : ((3 : Int32) ≤ 1) = False := by decide
  have l32 : ((3 : Int32) ≤ 2) = False := by decide
  have l33 : ((3 : Int32) ≤ 3) = True := by decide
  have a0 : (0 : Int32) + 1 = 1 := by decide
  have a1 : (1 : Int32) + 1 = 2 := by decide
  have a2 : (2 : Int32) + 1 = 3 := by decide
  refine ⟨4, ?_⟩
  simp only [wY_leftOver_4, forall_eq, mm_nDa, true_and, and_true, true_implies, false_implies, not_false_eq_true, not_true_eq_false, mm_i10, eq_self, l30, l31, l32, l33, i30, i31, i32, mm_c0, mm_c1, mm_c2, a0, a1, a2, e0, e1, e2]
  exact h
theorem yw_part {post : Int32 → Prop} {j : Nat} (hP : mm_P z kd nm) (hW : mm_W z kd nm (V, R, H, D)) (hj : j < 6) (h : post (ky_k z (V, R, H, D) j)) : wpY_part post (gc, gf, gd, kd, nm, mm_nD z, bg, V, R, H, mm_nD D, mm_nD yd, yo, rl, sm, kp, tr, yf) (nI j) := by
  rcases (by omega : j = 0 ∨ j = 1 ∨ j = 2 ∨ j = 3 ∨ j = 4 ∨ j = 5) with rfl | rfl | rfl | rfl | rfl | rfl
  · exact br_f (show ¬ (2 : Int32) ≤ nI 0 from by decide) ⟨vp_in_nI (by omega) (by omega), h⟩
  · exact br_f (show ¬ (2 : Int32) ≤ nI 1 from by decide) ⟨vp_in_nI (by omega) (by omega), h⟩
  · exact br_t (show (2 : Int32) ≤ nI 2 from by decide) (br_f (show ¬ (5 : Int32) ≤ nI 2 from by decide) ⟨vp_in_iff.mpr (by decide), h⟩)
  · exact br_t (show (2 : Int32) ≤ nI 3 from by decide) (br_f (show ¬ (5 : Int32) ≤ nI 3 from by decide) ⟨vp_in_iff.mpr (by decide), h⟩)
  · exact br_t (show (2 : Int32) ≤ nI 4 from by decide) (br_f (show ¬ (5 : Int32) ≤ nI 4 from by decide) ⟨vp_in_iff.mpr (by decide), h⟩)
  · exact br_t (show (2 : Int32) ≤ nI 5 from by decide) (br_t (show (5 : Int32) ≤ nI 5 from by decide) (yw_leftOver hP hW h))
theorem mm_6 (t d : Nat) : (6 : Int32) * nI t + nI d = nI (6 * t + d) := by
  rw [show (6 : Int32) = nI 6 from rfl, pk_mul, nI_add]
theorem yw_note14 {post : SY → Prop} {J : Int32 → Prop} {k : Nat} (hP : mm_P z kd nm) (hW : mm_W z kd nm (V, R, H, D)) (hk : k < 700) (h1 : (∀ j, j < 6 → yf (6 * k + j) = ky_k z (V, R, H, D) j) → post (gc, gf, gd, kd, nm, mm_nD z, bg, V, R, H, mm_nD D, mm_nD yd, yo, rl, sm, kp, tr, yf)) (h0 : ¬ (∀ j, j < 6 → yf (6 * k + j) = ky_k z (V, R, H, D) j) → J (nI (k + 1))) :
    ∃ n14, wY_note_14 post J (nI k) gc gf gd kd nm (mm_nD z) bg V R H (mm_nD D) (mm_nD yd) yo rl sm kp tr yf n14 1 0 := by
  have key : ∀ d j x, j + d = 6 → ((x = 1 ∧ ∀ i, i < j → yf (6 * k + i) = ky_k z (V, R, H, D) i) ∨ (x = 0 ∧ ¬ ∀ i, i < 6 → yf (6 * k + i) = ky_k z (V, R, H, D) i)) → wY_note_14 post J (nI k) gc gf gd kd nm (mm_nD z) bg V R H (mm_nD D) (mm_nD yd) yo rl sm kp tr yf (d + 1) x (nI j) := by
    intro d
    induction d with
    | zero =>
      intro j x hj hx
      have : j = 6 := by omega
      subst this
      refine br_t (show (6 : Int32) ≤ nI 6 from by decide) ?_
      rcases hx with ⟨rfl, hx⟩ | ⟨rfl, hx⟩
      · exact br_f (by decide) (h1 hx)
      · exact br_t rfl (nm_r (nI_1 k) (h0 hx))
    | succ d ih =>
      intro j x hj hx
      have e1 : (nI (6 * k + j)).toNatClampNeg = 6 * k + j := nI_clamp (by omega)
      have v1 : vp_in (nI (6 * k + j)) 4200 := vp_in_nI (by omega) (by omega)
      rw [wY_note_14]
      refine br_f (nI_ge (b := 6) (by omega) (by decide)) (yw_part hP hW (by omega) ?_)
      rw [mm_6, e1]
      rcases hx with ⟨rfl, hx⟩ | ⟨rfl, hx⟩
      · refine br_f (by decide) ⟨v1, br_c (fun a => nm_r (nI_1 j) (ih (j + 1) 1 (by omega) (Or.inl ⟨rfl, fun i hi => ?_⟩))) (fun a => nm_r (nI_1 j) (ih (j + 1) 0 (by omega) (Or.inr ⟨rfl, fun w => a (w j (by omega))⟩)))⟩
        by_cases e : i = j
        · subst e; exact a
        · exact hx i (by omega)
      · exact br_t rfl (nm_r (nI_1 j) (ih (j + 1) 0 (by omega) (Or.inr ⟨rfl, hx⟩)))
  exact ⟨7, key 6 0 1 (by omega) (Or.inl ⟨rfl, fun i hi => absurd hi (Nat.not_lt_zero _)⟩)⟩
theorem yw_note72 {post : SY → Prop} {L : List MSt} (hP : mm_P z kd nm) (hW : mm_W z kd nm (V, R, H, D)) (hL : yn_L z kd nm L gf gd yf) (hl : L.length < 700) (hns : (V, R, H, D) ∉ L)
    (h : ∀ gf' gd' yf', yn_L z kd nm (L ++ [(V, R, H, D)]) gf' gd' yf' → post (gc, gf', gd', kd, nm, mm_nD z, bg, V, R, H, mm_nD D, mm_nD yd, yo, rl, sm, kp, tr, yf')) : ∃ n72, wY_note_72 post gc gf gd n72 0 kd nm (mm_nD z) bg V R H (mm_nD D) (mm_nD yd) yo rl sm kp tr yf := by
  have hlen : (L ++ [(V, R, H, D)]).length = L.length + 1 := by simp
  have key : ∀ d j yf', j + d = 6 → (∀ q, q < 6 * L.length → yf' q = yf q) → (∀ i, i < j → yf' (6 * L.length + i) = ky_k z (V, R, H, D) i) → wY_note_72 post gc (nI L.length) gd (d + 1) (nI j) kd nm (mm_nD z) bg V R H (mm_nD D) (mm_nD yd) yo rl sm kp tr yf' := by
    intro d
    induction d with
    | zero =>
      intro j yf' hj h1 h2
      have : j = 6 := by omega
      subst this
      have hlo := ky_lt (s := (V, R, H, D)) hP
      have hd := ky_dead hW
      have hn : ∀ gd', gd' = nI ((L ++ [(V, R, H, D)]).countP (oc_dead z)) → yn_L z kd nm (L ++ [(V, R, H, D)]) (nI (L.length + 1)) gd' yf' := by
        intro gd' e
        refine ⟨?_, fun s hs => ?_, by rw [hlen], e, fun i s hs j hj => ?_⟩
        · refine List.nodup_append.mpr ⟨hL.1, by simp, fun a ha b hb => ?_⟩
          have : b = (V, R, H, D) := by simpa using hb
          rw [this]
          exact fun e => hns (e ▸ ha)
        · rcases List.mem_append.mp hs with w | w
          · exact hL.2.1 s w
          · have : s = (V, R, H, D) := by simpa using w
            rw [this]; exact hW
        · by_cases w : i < L.length
          · rw [List.getElem?_append_left w] at hs
            rw [h1 _ (by omega)]
            exact hL.2.2.2.2 i s hs j hj
          · rw [List.getElem?_append_right (by omega)] at hs
            have hi : i - L.length = 0 := by
              cases w : i - L.length with
              | zero => rfl
              | succ k => rw [w] at hs; simp at hs
            rw [hi] at hs
            have hx' : (V, R, H, D) = s := by simpa using hs
            subst hx'
            have : i = L.length := by omega
            subst this
            exact h2 j hj
      rw [wY_note_72]
      refine br_t (show (6 : Int32) ≤ nI 6 from by decide) (nm_r (nI_1 L.length) (yw_leftOver hP hW ?_))
      rw [mm_n0 (by omega)]
      refine br_c (fun a => h _ _ _ (hn _ ?_)) (fun a => nm_e (h _ _ _ (hn _ ?_)))
      · rw [hL.2.2.2.1, List.countP_append, List.countP_singleton, if_neg (fun w => by have := hd.mp w; omega)]
        rfl
      · rw [hL.2.2.2.1, List.countP_append, List.countP_singleton, if_pos (hd.mpr (by omega)), nI_1]
    | succ d ih =>
      intro j yf' hj h1 h2
      have e1 : (nI (6 * L.length + j)).toNatClampNeg = 6 * L.length + j := nI_clamp (by omega)
      have v1 : vp_in (nI (6 * L.length + j)) 4200 := vp_in_nI (by omega) (by omega)
      rw [wY_note_72]
      refine br_f (nI_ge (b := 6) (by omega) (by decide)) (yw_part hP hW (by omega) ?_)
      rw [mm_6, e1]
      refine ⟨v1, nm_e (nm_r (nI_1 j) (ih (j + 1) _ (by omega) (fun q hq => ?_) (fun i hi => ?_)))⟩
      · rw [pk_un (by omega)]; exact h1 q hq
      · by_cases w : i = j
        · subst w; rw [pk_us]
        · rw [pk_un (by omega)]; exact h2 i (by omega)
  rw [hL.2.2.1]
  exact ⟨7, key 6 0 yf (by omega) (fun _ _ => rfl) (fun i hi => absurd hi (Nat.not_lt_zero _))⟩
theorem yw_note {post : SY → Prop} {L : List MSt} (hP : mm_P z kd nm) (hW : mm_W z kd nm (V, R, H, D)) (hL : yn_L z kd nm L gf gd yf) (hl : L.length < 700)
    (h1 : (V, R, H, D) ∈ L → post (gc, gf, gd, kd, nm, mm_nD z, bg, V, R, H, mm_nD D, mm_nD yd, yo, rl, sm, kp, tr, yf)) (h2 : (V, R, H, D) ∉ L → ∀ gf' gd' yf', yn_L z kd nm (L ++ [(V, R, H, D)]) gf' gd' yf' → post (gc, gf', gd', kd, nm, mm_nD z, bg, V, R, H, mm_nD D, mm_nD yd, yo, rl, sm, kp, tr, yf')) : wpY_note post (gc, gf, gd, kd, nm, mm_nD z, bg, V, R, H, mm_nD D, mm_nD yd, yo, rl, sm, kp, tr, yf) := by
  have key : ∀ d k, k + d = L.length → (∀ i, i < k → L[i]? ≠ some (V, R, H, D)) → wY_note_2 post gc gf gd kd nm (mm_nD z) bg V R H (mm_nD D) (mm_nD yd) yo rl sm kp tr yf (d + 1) (nI k) := by
    intro d
    induction d with
    | zero =>
      intro k hk hI
      have : k = L.length := by omega
      subst this
      rw [wY_note_2, hL.2.2.1]
      refine br_t (nI_le (Nat.le_refl _) (by omega)) ?_
      rw [← hL.2.2.1]
      have hns : (V, R, H, D) ∉ L := by
        intro hs
        obtain ⟨i, hi⟩ := List.mem_iff_getElem?.mp hs
        have hil : i < L.length := by
          apply Nat.lt_of_not_le
          intro q
          rw [List.getElem?_eq_none q] at hi
          exact absurd hi (by simp)
        exact hI i hil hi
      exact yw_note72 hP hW hL hl hns (h2 hns)
    | succ d ih =>
      intro k hk hI
      obtain ⟨x, hx⟩ : ∃ x, L[k]? = some x := ⟨L[k]'(by omega), List.getElem?_eq_getElem (by omega)⟩
      have hxm : x ∈ L := List.mem_iff_getElem?.mpr ⟨k, hx⟩
      rw [wY_note_2]
      refine br_f (by rw [hL.2.2.1]; exact nI_ge (by omega) (by omega)) (yw_note14 hP hW (by omega) (fun q => h1 ?_) (fun q => ih (k + 1) (by omega) (fun i hi => ?_)))
      · have : (V, R, H, D) = x := ky_inj hP hW (hL.2.1 x hxm) (fun j hj => by rw [← q j hj]; exact hL.2.2.2.2 k x hx j hj)
        rw [this]; exact hxm
      · by_cases e : i = k
        · subst e
          intro hs
          exact q (fun j hj => hL.2.2.2.2 i _ hs j hj)
        · exact hI i (by omega)
  exact ⟨L.length + 1, key L.length 0 (by omega) (fun i hi => absurd hi (Nat.not_lt_zero _))⟩
end
end
section
/-! Y: all orders gone through -/
def oc_lf (z : Nat → Nat) (kd nm : Nat → Int32) : Nat → MSt → Nat
  | 0, _ => 1
  | k + 1, s => if oc_t z kd nm s = true then 1 else (if mm_en z kd nm 0 s = true then oc_lf z kd nm k (mm_stp kd nm 0 s) else 0) + (if mm_en z kd nm 1 s = true then oc_lf z kd nm k (mm_stp kd nm 1 s) else 0) + (if mm_en z kd nm 2 s = true then oc_lf z kd nm k (mm_stp kd nm 2 s) else 0)
def oc_x (z : Nat → Nat) (kd nm : Nat → Int32) (k : Nat) (s : MSt) (t : Nat) : Nat := if mm_en z kd nm t s = true then oc_lf z kd nm k (mm_stp kd nm t s) else 0
def oc_la (z : Nat → Nat) (kd nm : Nat → Int32) (k : Nat) (s : MSt) (a : Nat) : Nat := (if a ≤ 0 then oc_x z kd nm k s 0 else 0) + (if a ≤ 1 then oc_x z kd nm k s 1 else 0) + (if a ≤ 2 then oc_x z kd nm k s 2 else 0)
section
variable {z : Nat → Nat} {kd nm : Nat → Int32} {s : MSt} {k a : Nat}
theorem oc_lf_s : oc_lf z kd nm (k + 1) s = if oc_t z kd nm s = true then 1 else oc_la z kd nm k s 0 := by
  rw [oc_lf]
  rfl
theorem oc_x1 {t : Nat} (h : mm_en z kd nm t s = true) : oc_x z kd nm k s t = oc_lf z kd nm k (mm_stp kd nm t s) := if_pos h
theorem oc_x0 {t : Nat} (h : mm_en z kd nm t s = false) : oc_x z kd nm k s t = 0 := if_neg (by rw [h]; decide)
theorem oc_la_none (h : ∀ u, a ≤ u → u < 3 → mm_en z kd nm u s = false) : oc_la z kd nm k s a = 0 := by
  unfold oc_la
  have h0 : (if a ≤ 0 then oc_x z kd nm k s 0 else 0) = 0 := by
    split
    · rename_i q; exact oc_x0 (h 0 q (by omega))
    · rfl
  have h1 : (if a ≤ 1 then oc_x z kd nm k s 1 else 0) = 0 := by
    split
    · rename_i q; exact oc_x0 (h 1 q (by omega))
    · rfl
  have h2 : (if a ≤ 2 then oc_x z kd nm k s 2 else 0) = 0 := by
    split
    · rename_i q; exact oc_x0 (h 2 q (by omega))
    · rfl
  rw [h0, h1, h2]
theorem oc_la_next {t : Nat} (ha : a ≤ t) (ht : t < 3) (hn : ∀ u, a ≤ u → u < t → mm_en z kd nm u s = false) (he : mm_en z kd nm t s = true) :
    oc_la z kd nm k s a = oc_lf z kd nm k (mm_stp kd nm t s) + oc_la z kd nm k s (t + 1) := by
  rw [← oc_x1 he]
  unfold oc_la
  rcases (by omega : t = 0 ∨ t = 1 ∨ t = 2) with rfl | rfl | rfl
  · rw [if_pos ha, if_pos (by omega), if_pos (by omega), if_neg (by omega), if_pos (by omega), if_pos (by omega)]
    omega
  · rw [if_neg (by omega : ¬ 1 + 1 ≤ 0), if_neg (by omega : ¬ 1 + 1 ≤ 1), if_pos (by omega : 1 + 1 ≤ 2), if_pos ha, if_pos (by omega : a ≤ 2)]
    have h0 : (if a ≤ 0 then oc_x z kd nm k s 0 else 0) = 0 := by
      split
      · rename_i q; exact oc_x0 (hn 0 q (by omega))
      · rfl
    rw [h0]
    omega
  · rw [if_neg (by omega : ¬ 2 + 1 ≤ 0), if_neg (by omega : ¬ 2 + 1 ≤ 1), if_neg (by omega : ¬ 2 + 1 ≤ 2), if_pos ha]
    have h0 : (if a ≤ 0 then oc_x z kd nm k s 0 else 0) = 0 := by
      split
      · rename_i q; exact oc_x0 (hn 0 q (by omega))
      · rfl
    have h1 : (if a ≤ 1 then oc_x z kd nm k s 1 else 0) = 0 := by
      split
      · rename_i q; exact oc_x0 (hn 1 q (by omega))
      · rfl
    rw [h0, h1]
    omega
theorem oc_lf_le (hP : mm_P z kd nm) : ∀ k s a b c, mm_W z kd nm s → a = z 0 - s.2.2.2 0 → b = z 1 - s.2.2.2 1 → c = z 2 - s.2.2.2 2 → oc_lf z kd nm k s ≤ oc_m k a b c := by
  intro k
  induction k with
  | zero => intro s a b c _ _ _ _; rw [oc_lf, oc_m]; exact Nat.le_refl _
  | succ k ih =>
    intro s a b c hW ha hb hc
    rw [oc_lf, oc_m]
    by_cases q : oc_t z kd nm s = true
    · rw [if_pos q]; omega
    · rw [if_neg q]
      have h0 : (if mm_en z kd nm 0 s = true then oc_lf z kd nm k (mm_stp kd nm 0 s) else 0) ≤ oc_pr (fun a' => oc_m k a' b c) a := by
        by_cases e : mm_en z kd nm 0 s = true
        · rw [if_pos e]
          have l := mm_lt hW (by omega) e
          cases a with
          | zero => omega
          | succ a' =>
            refine ih _ a' b c (mm_W_stp hP hW (by omega) e) ?_ ?_ ?_ <;> rw [mm_stpD]
            · rw [mm_us]; omega
            · rw [mm_ud (by omega)]; omega
            · rw [mm_ud (by omega)]; omega
        · rw [if_neg e]; exact Nat.zero_le _
      have h1 : (if mm_en z kd nm 1 s = true then oc_lf z kd nm k (mm_stp kd nm 1 s) else 0) ≤ oc_pr (fun b' => oc_m k a b' c) b := by
        by_cases e : mm_en z kd nm 1 s = true
        · rw [if_pos e]
          have l := mm_lt hW (by omega) e
          cases b with
          | zero => omega
          | succ b' =>
            refine ih _ a b' c (mm_W_stp hP hW (by omega) e) ?_ ?_ ?_ <;> rw [mm_stpD]
            · rw [mm_ud (by omega)]; omega
            · rw [mm_us]; omega
            · rw [mm_ud (by omega)]; omega
        · rw [if_neg e]; exact Nat.zero_le _
      have h2 : (if mm_en z kd nm 2 s = true then oc_lf z kd nm k (mm_stp kd nm 2 s) else 0) ≤ oc_pr (fun c' => oc_m k a b c') c := by
        by_cases e : mm_en z kd nm 2 s = true
        · rw [if_pos e]
          have l := mm_lt hW (by omega) e
          cases c with
          | zero => omega
          | succ c' =>
            refine ih _ a b c' (mm_W_stp hP hW (by omega) e) ?_ ?_ ?_ <;> rw [mm_stpD]
            · rw [mm_ud (by omega)]; omega
            · rw [mm_ud (by omega)]; omega
            · rw [mm_us]; omega
        · rw [if_neg e]; exact Nat.zero_le _
      omega
end
/-- what Y keeps of the steps done -/
def ys_Y (kd nm bg : Nat → Int32) (ev yd : Nat → Nat) (yo : Nat → Int32) (m : Nat) : Prop :=
  (∀ i, i < m → yd i = ev_o ev i) ∧ (∀ i, i < m → kd (ev_o ev i) ≠ 3 → kd (ev_o ev i) ≠ 4 → yo i = mm_old kd nm (ev i) (ev_S kd nm bg ev i))
section
variable {z : Nat → Nat} {kd nm bg : Nat → Int32} {ev ev' yd : Nat → Nat} {yo : Nat → Int32} {m : Nat}
theorem ys_cg (h : ∀ i, i < m → ev' i = ev i) (hY : ys_Y kd nm bg ev yd yo m) : ys_Y kd nm bg ev' yd yo m := by
  refine ⟨fun i hi => ?_, fun i hi => ?_⟩
  · rw [ev_o_cg h hi]; exact hY.1 i hi
  · rw [ev_o_cg h hi, h i hi, ev_S_cg h i (by omega)]; exact hY.2 i hi
theorem ys_go {t : Nat} {V R H yo' : Nat → Int32} {D : Nat → Nat} (hY : ys_Y kd nm bg ev yd yo m) (hS : ev_S kd nm bg ev m = (V, R, H, D)) (h1 : ∀ i, i ≠ m → yo' i = yo i)
    (h2 : kd (4 * t + D t) ≠ 3 → kd (4 * t + D t) ≠ 4 → yo' m = mm_old kd nm t (V, R, H, D)) : ys_Y kd nm bg (mm_un ev m t) (mm_un yd m (4 * t + D t)) yo' (m + 1) ∧ ev_o (mm_un ev m t) m = 4 * t + D t := by
  have hg : ∀ i, i < m → mm_un ev m t i = ev i := fun i hi => mm_ud (by omega)
  have hn : mm_un ev m t m = t := mm_us _ _ _
  have hSm : ev_S kd nm bg (mm_un ev m t) m = (V, R, H, D) := (ev_S_cg hg m (Nat.le_refl _)).trans hS
  have hD : D t = ev_c (mm_un ev m t) t m := by
    have a := ev_SD (kd := kd) (nm := nm) (bg := bg) (ev := mm_un ev m t) m
    rw [hSm] at a
    exact congrFun a t
  have hon : ev_o (mm_un ev m t) m = 4 * t + D t := by unfold ev_o; rw [hn, hD]
  refine ⟨⟨fun i hi => ?_, fun i hi => ?_⟩, hon⟩
  · by_cases e : i = m
    · subst e; rw [mm_us, hon]
    · rw [mm_ud e, ev_o_cg hg (by omega)]; exact hY.1 i (by omega)
  · by_cases e : i = m
    · subst e; rw [hon, hn, hSm]; exact h2
    · rw [ev_o_cg hg (by omega), hg i (by omega), ev_S_cg hg i (by omega), h1 i e]; exact hY.2 i (by omega)
theorem ys_Ok {t : Nat} {V R H : Nat → Int32} {D : Nat → Nat} (hO : ev_Ok z kd nm bg ev m) (hS : ev_S kd nm bg ev m = (V, R, H, D)) (ht : t < 3) (he : mm_en z kd nm t (V, R, H, D) = true) :
    ev_Ok z kd nm bg (mm_un ev m t) (m + 1) ∧ ev_S kd nm bg (mm_un ev m t) (m + 1) = mm_stp kd nm t (V, R, H, D) := by
  have hg : ∀ i, i < m → mm_un ev m t i = ev i := fun i hi => mm_ud (by omega)
  have hn : mm_un ev m t m = t := mm_us _ _ _
  have hSm : ev_S kd nm bg (mm_un ev m t) m = (V, R, H, D) := (ev_S_cg hg m (Nat.le_refl _)).trans hS
  refine ⟨⟨hO.1, fun i hi => ?_⟩, ?_⟩
  · by_cases e : i = m
    · subst e; rw [hn, hSm]; exact ⟨ht, he⟩
    · exact (ev_Ok_cg hg hO).2 i (by omega)
  · rw [ev_S, hn, hSm]
end
section
variable {z D yd : Nat → Nat} {kd nm bg R V H yo rl sm kp tr yf : Nat → Int32} {n : Nat} {gc gf gd : Int32}
theorem yw_nextEnabled {post : Int32 → Prop} {a : Nat} {p : Int32} (hp : p + 1 = nI a) (ha : a ≤ 3) (hP : mm_P z kd nm) (hW : mm_W z kd nm (V, R, H, D))
    (h : ∀ t, a ≤ t → t ≤ 3 → (∀ u, a ≤ u → u < t → mm_en z kd nm u (V, R, H, D) = false) → (t < 3 → mm_en z kd nm t (V, R, H, D) = true) → post (nI t)) : wpY_nextEnabled post (gc, gf, gd, kd, nm, mm_nD z, bg, V, R, H, mm_nD D, mm_nD yd, yo, rl, sm, kp, tr, yf) p := by
  have key : ∀ d t, t + d = 3 → a ≤ t → (∀ u, a ≤ u → u < t → mm_en z kd nm u (V, R, H, D) = false) → wY_nextEnabled_4 post gc gf gd kd nm (mm_nD z) bg V R H (mm_nD D) (mm_nD yd) yo rl sm kp tr yf (d + 1) (nI t) := by
    intro d
    induction d with
    | zero =>
      intro t ht hat hI
      have : t = 3 := by omega
      subst this
      exact br_t (show (3 : Int32) ≤ nI 3 from by decide) (h 3 hat (by omega) hI (fun w => by omega))
    | succ d ih =>
      intro t ht hat hI
      rw [wY_nextEnabled_4]
      refine br_f (nI_ge (b := 3) (by omega) (by decide)) (yw_isEnabled (by omega) hP (hW.1 t (by omega)) (fun e => br_f (by decide) (h t hat (by omega) hI (fun _ => e))) (fun e => br_t rfl (nm_r (nI_1 t) (ih (t + 1) (by omega) (by omega) (fun u h1 h2 => ?_)))))
      by_cases w : u = t
      · subst w; exact e
      · exact hI u h1 (by omega)
  exact nm_r hp ⟨3 - a + 1, key (3 - a) a (by omega) (Nat.le_refl _) (fun u h1 h2 => by omega)⟩
end
section
variable {z : Nat → Nat} {kd nm bg rl sm kp : Nat → Int32} {n0 : Nat} {post : SY → Prop}
theorem yw_dfs (hP : mm_P z kd nm) :
    ∀ r m ev V R H D, n0 ≤ m → ev_Ok z kd nm bg ev m → ev_S kd nm bg ev m = (V, R, H, D) → (z 0 - D 0) + (z 1 - D 1) + (z 2 - D 2) ≤ r →
    ∀ c a, 3 ≤ a + c → a ≤ 3 → ∃ k, ∀ q (tr : Nat → Int32) (yd : Nat → Nat) (yo : Nat → Int32) (L : List MSt) (gf gd : Int32) (yf : Nat → Int32), ys_Y kd nm bg ev yd yo m → yn_L z kd nm L gf gd yf → tr m + 1 = nI a → L.length + oc_la z kd nm r (V, R, H, D) a ≤ 560 →
      (∀ (tr' : Nat → Int32) (yd' : Nat → Nat) (yo' : Nat → Int32) (L' : List MSt) (gf' gd' : Int32) (yf' : Nat → Int32) (a' : Nat), ys_Y kd nm bg ev yd' yo' m → yn_L z kd nm L' gf' gd' yf' → a' ≤ 3 → tr' m + 1 = nI a' → (∀ u, a' ≤ u → u < 3 → mm_en z kd nm u (V, R, H, D) = false) → (∀ i, i < m → tr' i = tr i) →
        (∀ f, f ∈ L' ↔ (f ∈ L ∨ (oc_t z kd nm f = true ∧ ∃ t, a ≤ t ∧ t < 3 ∧ mm_en z kd nm t (V, R, H, D) = true ∧ ∃ n, oc_P z kd nm n (mm_stp kd nm t (V, R, H, D)) f))) → L'.length ≤ L.length + oc_la z kd nm r (V, R, H, D) a →
        wY_goThrough_41 post (nI n0) q (nI m) (nI m) gf' gd' kd nm (mm_nD z) bg V R H (mm_nD D) (mm_nD yd') yo' rl sm kp tr' yf') →
      wY_goThrough_41 post (nI n0) (q + k) (nI m) (nI m) gf gd kd nm (mm_nD z) bg V R H (mm_nD D) (mm_nD yd) yo rl sm kp tr yf := by
  intro r
  induction r with
  | zero =>
    intro m ev V R H D hn hO hS hr c a hc ha
    have hW := ev_W hP hO m (Nat.le_refl _)
    rw [hS] at hW
    have none : ∀ u, u < 3 → mm_en z kd nm u (V, R, H, D) = false := by
      intro u hu
      refine Bool.eq_false_iff.mpr fun e => ?_
      have l : D u < z u := mm_lt hW hu e
      rcases (by omega : u = 0 ∨ u = 1 ∨ u = 2) with rfl | rfl | rfl <;> omega
    refine ⟨0, fun q tr yd yo L gf gd yf hY hL ht hle hend => ?_⟩
    refine hend tr yd yo L gf gd yf a hY hL ha ht (fun u _ hu => none u hu) (fun _ _ => rfl) (fun f => ⟨Or.inl, fun w => w.elim id ?_⟩) (Nat.le_add_right _ _)
    rintro ⟨_, t, _, ht3, he, _⟩
    rw [none t ht3] at he
    exact absurd he (by decide)
  | succ r ih =>
    intro m ev V R H D hn hO hS hr c
    have hW := ev_W hP hO m (Nat.le_refl _)
    rw [hS] at hW
    have hfin : ∀ a, a ≤ 3 → (∀ u, a ≤ u → u < 3 → mm_en z kd nm u (V, R, H, D) = false) → ∃ k, ∀ q (tr : Nat → Int32) (yd : Nat → Nat) (yo : Nat → Int32) (L : List MSt) (gf gd : Int32) (yf : Nat → Int32), ys_Y kd nm bg ev yd yo m → yn_L z kd nm L gf gd yf → tr m + 1 = nI a → L.length + oc_la z kd nm (r + 1) (V, R, H, D) a ≤ 560 →
      (∀ (tr' : Nat → Int32) (yd' : Nat → Nat) (yo' : Nat → Int32) (L' : List MSt) (gf' gd' : Int32) (yf' : Nat → Int32) (a' : Nat), ys_Y kd nm bg ev yd' yo' m → yn_L z kd nm L' gf' gd' yf' → a' ≤ 3 → tr' m + 1 = nI a' → (∀ u, a' ≤ u → u < 3 → mm_en z kd nm u (V, R, H, D) = false) → (∀ i, i < m → tr' i = tr i) →
        (∀ f, f ∈ L' ↔ (f ∈ L ∨ (oc_t z kd nm f = true ∧ ∃ t, a ≤ t ∧ t < 3 ∧ mm_en z kd nm t (V, R, H, D) = true ∧ ∃ n, oc_P z kd nm n (mm_stp kd nm t (V, R, H, D)) f))) → L'.length ≤ L.length + oc_la z kd nm (r + 1) (V, R, H, D) a →
        wY_goThrough_41 post (nI n0) q (nI m) (nI m) gf' gd' kd nm (mm_nD z) bg V R H (mm_nD D) (mm_nD yd') yo' rl sm kp tr' yf') →
      wY_goThrough_41 post (nI n0) (q + k) (nI m) (nI m) gf gd kd nm (mm_nD z) bg V R H (mm_nD D) (mm_nD yd) yo rl sm kp tr yf := by
      intro a ha none
      refine ⟨0, fun q tr yd yo L gf gd yf hY hL ht hle hend => ?_⟩
      refine hend tr yd yo L gf gd yf a hY hL ha ht none (fun _ _ => rfl) (fun f => ⟨Or.inl, fun w => w.elim id ?_⟩) (Nat.le_add_right _ _)
      rintro ⟨_, t, hat, ht3, he, _⟩
      rw [none t hat ht3] at he
      exact absurd he (by decide)
    induction c with
    | zero =>
      intro a hc ha
      exact hfin a ha (fun u h1 h2 => by omega)
    | succ c ihc =>
      intro a hc ha
      by_cases hex : ∃ t, a ≤ t ∧ t < 3 ∧ mm_en z kd nm t (V, R, H, D) = true
      · obtain ⟨tq, htq⟩ := hex
        obtain ⟨t, _, ⟨hat, ht3, he⟩, hlow⟩ := oc_least (fun t => a ≤ t ∧ t < 3 ∧ mm_en z kd nm t (V, R, H, D) = true) tq htq
        have hnone : ∀ u, a ≤ u → u < t → mm_en z kd nm u (V, R, H, D) = false := fun u h1 h2 => Bool.eq_false_iff.mpr fun w => hlow u h2 ⟨h1, by omega, w⟩
        obtain ⟨V1, R1, H1, D1, e1⟩ : ∃ V1 R1 H1 D1, mm_stp kd nm t (V, R, H, D) = (V1, R1, H1, D1) := ⟨_, _, _, _, rfl⟩
        obtain ⟨hO1, hS1⟩ := ys_Ok hO hS ht3 he
        rw [e1] at hS1
        have hW1 := ev_W hP hO1 (m + 1) (Nat.le_refl _)
        rw [hS1] at hW1
        have hlt : D t < z t := mm_lt hW ht3 he
        have hD1 : D1 = mm_un D t (D t + 1) := by
          have := mm_stpD (kd := kd) (nm := nm) (t := t) (s := (V, R, H, D))
          rw [e1] at this
          exact this
        have hrem : (z 0 - D1 0) + (z 1 - D1 1) + (z 2 - D1 2) ≤ r := by
          rw [hD1]
          rcases (by omega : t = 0 ∨ t = 1 ∨ t = 2) with rfl | rfl | rfl
          · rw [mm_us, mm_ud (by omega), mm_ud (by omega)]; omega
          · rw [mm_us, mm_ud (by omega), mm_ud (by omega)]; omega
          · rw [mm_us, mm_ud (by omega), mm_ud (by omega)]; omega
        obtain ⟨k1, hk1⟩ := ih (m + 1) (mm_un ev m t) V1 R1 H1 D1 (by omega) hO1 hS1 hrem 3 0 (by omega) (by omega)
        obtain ⟨k2, hk2⟩ := ihc (t + 1) (by omega) (by omega)
        have hm8 := ev_n8 hP hO1
        have hlaEq := oc_la_next (k := r + 1) hat ht3 hnone he
        rw [e1, oc_lf_s] at hlaEq
        have em : (nI m).toNatClampNeg = m := nI_clamp (by omega)
        have em1 : (nI (m + 1)).toNatClampNeg = m + 1 := nI_clamp (by omega)
        have vm : vp_in (nI m) 9 := vp_in_nI (by omega) (by omega)
        have vm1 : vp_in (nI (m + 1)) 9 := vp_in_nI (by omega) (by omega)
        have hg : ∀ i, i < m → mm_un ev m t i = ev i := fun i hi => mm_ud (by omega)
        refine ⟨k2 + 1 + k1 + 1, fun q tr yd yo L gf gd yf hY hL htr hle hend => ?_⟩
        rw [show q + (k2 + 1 + k1 + 1) = (q + k2 + 1 + k1) + 1 from by omega, wY_goThrough_41]
        refine br_f (nI_nlt hn (by omega)) ⟨vm, ?_⟩
        dsimp only
        rw [em]
        refine yw_nextEnabled htr ha hP hW (fun t' b1 b2 b3 b4 => ?_)
        have htt : t' = t := by
          rcases Nat.lt_trichotomy t' t with w | w | w
          · have := b4 (by omega)
            rw [hnone t' b1 w] at this
            exact absurd this (by decide)
          · exact w
          · rw [b3 t hat w] at he
            exact absurd he (by decide)
        subst htt
        refine ⟨vm, nm_e (br_f (fun w => ?_) ?_)⟩
        · have := (nI_eq (b := 3) (by omega) (by omega)).mp w
          omega
        refine yw_go (n := m) ht3 (by omega) hP hlt (fun V' R' H' D' yo' hs hy1 hy2 => ?_)
        rw [e1] at hs
        cases hs
        obtain ⟨hY1, hon⟩ := ys_go hY hS hy1 hy2
        refine nm_r (nI_1 m) ?_
        rw [em1]
        refine ⟨vm1, nm_e ?_⟩
        /- at the child, with what is noted there -/
        have hchild : ∀ (L1 : List MSt) (gf1 gd1 : Int32) (yf1 : Nat → Int32), yn_L z kd nm L1 gf1 gd1 yf1 → (∀ f, f ∈ L1 ↔ (f ∈ L ∨ (oc_t z kd nm (V1, R1, H1, D1) = true ∧ f = (V1, R1, H1, D1)))) → L1.length + oc_la z kd nm r (V1, R1, H1, D1) 0 ≤ L.length + (if oc_t z kd nm (V1, R1, H1, D1) = true then 1 else oc_la z kd nm r (V1, R1, H1, D1) 0) →
            wY_goThrough_41 post (nI n0) (q + k2 + 1 + k1) (nI (m + 1)) (nI (m + 1)) gf1 gd1 kd nm (mm_nD z) bg V1 R1 H1 (mm_nD D1) (mm_nD (mm_un yd m (4 * t' + D t'))) yo' rl sm kp (upd (upd tr m (nI t')) (m + 1) (-1)) yf1 := by
          intro L1 gf1 gd1 yf1 hL1 hmem1 hlen1
          refine hk1 (q + k2 + 1) _ _ _ L1 gf1 gd1 yf1 hY1 hL1 (by rw [pk_us]; decide) (by omega) (fun tr' yd' yo2 L2 gf2 gd2 yf2 a' hY2 hL2 ha' htr' hno hlowtr hmem2 hlen2 => ?_)
          rw [wY_goThrough_41]
          refine br_f (nI_nlt (by omega) (by omega)) ⟨vm1, ?_⟩
          dsimp only
          rw [em1]
          refine yw_nextEnabled htr' ha' hP hW1 (fun t3 c1 c2 c3 c4 => ?_)
          have ht3' : t3 = 3 := by
            apply Classical.byContradiction
            intro w
            have := c4 (by omega)
            rw [hno t3 c1 (by omega)] at this
            exact absurd this (by decide)
          subst ht3'
          refine ⟨vm1, nm_e (br_t rfl (nm_r (pk_m1 m) (br_f (nI_nlt hn (by omega)) ?_)))⟩
          have hSm : ev_S kd nm bg (mm_un ev m t') m = (V, R, H, D) := (ev_S_cg hg m (Nat.le_refl _)).trans hS
          refine yw_undo (n := m) (t := t') ht3 (by omega) hP hlt he e1 ((hY2.1 m (by omega)).trans hon) (fun d1 d2 => ?_) ?_
          · have f := hY2.2 m (by omega)
            rw [hon, mm_us, hSm] at f
            exact f d1 d2
          · have hmem3 : ∀ f, f ∈ L2 ↔ (f ∈ L ∨ (oc_t z kd nm f = true ∧ ∃ n, oc_P z kd nm n (V1, R1, H1, D1) f)) := by
              intro f
              rw [hmem2 f, hmem1 f]
              constructor
              · rintro ((w | ⟨w1, w2⟩) | ⟨w1, u, _, hu, hue, n, hn'⟩)
                · exact Or.inl w
                · exact Or.inr ⟨by rw [w2]; exact w1, 0, w2.symm⟩
                · exact Or.inr ⟨w1, n + 1, u, hu, hue, hn'⟩
              · rintro (w | ⟨w1, n, hn'⟩)
                · exact Or.inl (Or.inl w)
                · cases n with
                  | zero =>
                    have hn'' : (V1, R1, H1, D1) = f := hn'
                    exact Or.inl (Or.inr ⟨by rw [hn'']; exact w1, hn''.symm⟩)
                  | succ n =>
                    obtain ⟨u, hu, hue, hp⟩ := hn'
                    exact Or.inr ⟨w1, u, Nat.zero_le _, hu, hue, n, hp⟩
            refine hk2 q (upd tr' (m + 1) (nI 3)) yd' yo2 L2 gf2 gd2 yf2 (ys_cg (fun i hi => (hg i hi).symm) ⟨fun i hi => hY2.1 i (by omega), fun i hi => hY2.2 i (by omega)⟩) hL2 ?_ (by omega) (fun tr4 yd4 yo4 L4 gf4 gd4 yf4 a4 hY4 hL4 ha4 htr4 hno4 hlow4 hmem4 hlen4 => ?_)
            · rw [pk_un (by omega), hlowtr m (by omega), pk_un (by omega), pk_us, nI_1]
            · refine hend tr4 yd4 yo4 L4 gf4 gd4 yf4 a4 hY4 hL4 ha4 htr4 hno4 (fun i hi => ?_) (fun f => ?_) (by omega)
              · rw [hlow4 i hi, pk_un (by omega), hlowtr i (by omega), pk_un (by omega), pk_un (by omega)]
              · rw [hmem4 f, hmem3 f]
                constructor
                · rintro ((w | ⟨w1, n, w2⟩) | ⟨w1, u, h1, h2, h3, h4⟩)
                  · exact Or.inl w
                  · exact Or.inr ⟨w1, t', hat, ht3, he, n, by rw [e1]; exact w2⟩
                  · exact Or.inr ⟨w1, u, by omega, h2, h3, h4⟩
                · rintro (w | ⟨w1, u, h1, h2, h3, n, h4⟩)
                  · exact Or.inl (Or.inl w)
                  · rcases Nat.lt_trichotomy u t' with w | w | w
                    · rw [hnone u h1 w] at h3; exact absurd h3 (by decide)
                    · subst w
                      rw [e1] at h4
                      exact Or.inl (Or.inr ⟨w1, n, h4⟩)
                    · exact Or.inr ⟨w1, u, by omega, h2, h3, n, h4⟩
        refine yw_nextEnabled (a := 0) (by decide) (by omega) hP hW1 (fun t2 c1 c2 c3 c4 => ?_)
        refine pk_eq t2 3 (fun w => ?_) (fun w => ?_)
        · have hterm : oc_t z kd nm (V1, R1, H1, D1) = true := oc_t_iff.mpr fun u hu => c3 u (Nat.zero_le _) (by omega)
          have hla0 : oc_la z kd nm r (V1, R1, H1, D1) 0 = 0 := oc_la_none (fun u _ hu => oc_t_iff.mp hterm u hu)
          refine yw_note hP hW1 hL (by omega) (fun hin => ?_) (fun hns gf' gd' yf' hL' => ?_)
          · refine hchild L gf gd yf hL (fun f => ⟨Or.inl, fun x => x.elim id (fun y => by rw [y.2]; exact hin)⟩) ?_
            rw [hla0, if_pos hterm]
            omega
          · refine hchild (L ++ [(V1, R1, H1, D1)]) gf' gd' yf' hL' (fun f => ?_) ?_
            · rw [List.mem_append, List.mem_singleton]
              exact ⟨fun x => x.elim Or.inl (fun y => Or.inr ⟨hterm, y⟩), fun x => x.elim Or.inl (fun y => Or.inr y.2)⟩
            · rw [hla0, if_pos hterm, List.length_append]
              exact Nat.le_refl _
        · have hterm : ¬ oc_t z kd nm (V1, R1, H1, D1) = true := fun x => by
            have := c4 (by omega)
            rw [oc_t_iff.mp x t2 (by omega)] at this
            exact absurd this (by decide)
          refine hchild L gf gd yf hL (fun f => ⟨Or.inl, fun x => x.elim id (fun y => absurd y.1 hterm)⟩) ?_
          rw [if_neg hterm]
          exact Nat.le_refl _
      · exact hfin a ha (fun u h1 h2 => Bool.eq_false_iff.mpr fun w => hex ⟨u, h1, h2, w⟩)
end
end
section
/-! Y: all outcomes -/
theorem oc_m9 : ∀ a, a < 5 → ∀ b, b < 5 → ∀ c, c < 5 → a + b + c ≤ 8 → oc_m 9 a b c ≤ 560 := by decide +kernel
section
variable {z D yd ev : Nat → Nat} {kd nm bg R V H yo rl sm kp tr yf : Nat → Int32} {n : Nat} {gc gf gd : Int32}
theorem yw_goThrough {post : SY → Prop} (hP : mm_P z kd nm) (hO : ev_Ok z kd nm bg ev n) (hS : ev_S kd nm bg ev n = (V, R, H, D)) (hY : ys_Y kd nm bg ev yd yo n)
    (h : ∀ L tr yd yo gf gd yf, oc_Out z kd nm (V, R, H, D) L → yn_L z kd nm L gf gd yf → L.length < 700 → ys_Y kd nm bg ev yd yo n → post (nI n, gf, gd, kd, nm, mm_nD z, bg, V, R, H, mm_nD D, mm_nD yd, yo, rl, sm, kp, tr, yf)) : wpY_goThrough post (nI n, gf, gd, kd, nm, mm_nD z, bg, V, R, H, mm_nD D, mm_nD yd, yo, rl, sm, kp, tr, yf) := by
  have h8 := ev_n8 hP hO
  have hW := ev_W hP hO n (Nat.le_refl _)
  rw [hS] at hW
  have en : (nI n).toNatClampNeg = n := nI_clamp (by omega)
  have vn : vp_in (nI n) 9 := vp_in_nI (by omega) (by omega)
  have hL0 : ∀ yf : Nat → Int32, yn_L z kd nm [] 0 0 yf := fun yf => ⟨by simp, fun s hs => absurd hs (by simp), rfl, rfl, fun i s hs => by simp at hs⟩
  unfold wpY_goThrough
  dsimp only
  rw [en]
  refine ⟨vn, nm_e ?_⟩
  refine yw_nextEnabled (a := 0) (by decide) (by omega) hP hW (fun t2 c1 c2 c3 c4 => ?_)
  refine pk_eq t2 3 (fun w => ?_) (fun w => ?_)
  · have hterm : oc_t z kd nm (V, R, H, D) = true := oc_t_iff.mpr fun u hu => c3 u (Nat.zero_le _) (by omega)
    refine yw_note hP hW (hL0 yf) (by simp) (fun hin => absurd hin (by simp)) (fun _ gf' gd' yf' hL' => ?_)
    refine h [(V, R, H, D)] _ yd yo gf' gd' yf' ⟨by simp, fun s => ?_⟩ hL' (by simp) hY
    rw [List.mem_singleton]
    constructor
    · intro e
      rw [e]
      exact ⟨hterm, 0, rfl⟩
    · rintro ⟨_, k, hk⟩
      cases k with
      | zero => exact hk.symm
      | succ k =>
        obtain ⟨u, hu, hue, _⟩ := hk
        rw [oc_t_iff.mp hterm u hu] at hue
        exact absurd hue (by decide)
  · have he := c4 (by omega)
    have hnt : ¬ oc_t z kd nm (V, R, H, D) = true := fun x => by
      rw [oc_t_iff.mp x t2 (by omega)] at he
      exact absurd he (by decide)
    have z0 := hP.1 0 (by omega)
    have z1 := hP.1 1 (by omega)
    have z2 := hP.1 2 (by omega)
    have zs := hP.2.1
    obtain ⟨k, hk⟩ := yw_dfs (rl := rl) (sm := sm) (kp := kp) (post := post) (n0 := n) hP 8 n ev V R H D (Nat.le_refl _) hO hS (by omega) 3 0 (by omega) (by omega)
    have hla : oc_la z kd nm 8 (V, R, H, D) 0 ≤ 560 := by
      have h1 := oc_lf_le hP 9 (V, R, H, D) _ _ _ hW rfl rfl rfl
      rw [oc_lf_s, if_neg hnt] at h1
      have h2 := oc_m9 (z 0 - D 0) (by omega) (z 1 - D 1) (by omega) (z 2 - D 2) (by omega) (by omega)
      have h1' : oc_la z kd nm 8 (V, R, H, D) 0 ≤ oc_m 9 (z 0 - D 0) (z 1 - D 1) (z 2 - D 2) := h1
      omega
    have h3 : ([] : List MSt).length = 0 := rfl
    refine ⟨2 + k, ?_⟩
    refine hk 2 _ yd yo [] 0 0 yf hY (hL0 yf) (by rw [pk_us]; decide) ?_ (fun tr' yd' yo' L' gf' gd' yf' a' hY' hL' ha' htr' hno hlow hmem hlen => ?_)
    · omega
    · rw [wY_goThrough_41]
      refine br_f (nI_nlt (Nat.le_refl _) (by omega)) ⟨vn, ?_⟩
      dsimp only
      rw [en]
      refine yw_nextEnabled htr' ha' hP hW (fun t3 c1 c2 c3 c4 => ?_)
      have ht3' : t3 = 3 := by
        apply Classical.byContradiction
        intro w
        have := c4 (by omega)
        rw [hno t3 c1 (by omega)] at this
        exact absurd this (by decide)
      subst ht3'
      have hlt : nI n + (-1) < nI n := by
        cases n with
        | zero => decide
        | succ m => rw [pk_m1]; exact nI_lt (by omega) (by omega)
      refine ⟨vn, nm_e (br_t rfl (nm_e (br_t hlt ?_)))⟩
      rw [wY_goThrough_41]
      refine br_t hlt (h L' _ yd' yo' gf' gd' yf' ⟨hL'.1, fun s => (hmem s).trans ?_⟩ hL' (by omega) hY')
      constructor
      · rintro (w | ⟨a, t, _, ht, hte, m, hm⟩)
        · exact absurd w (by simp)
        · exact ⟨a, m + 1, t, ht, hte, hm⟩
      · rintro ⟨a, m, hm⟩
        cases m with
        | zero =>
          have hm' : (V, R, H, D) = s := hm
          rw [← hm'] at a
          exact absurd a hnt
        | succ m =>
          obtain ⟨t, ht, hte, hm⟩ := hm
          exact Or.inr ⟨a, t, Nat.zero_le _, ht, hte, m, hm⟩
theorem yw_goThroughAll {post : SY → Prop} (hP : mm_P z kd nm) (hO : ev_Ok z kd nm bg ev n) (hS : ev_S kd nm bg ev n = (V, R, H, D)) (hY : ys_Y kd nm bg ev yd yo n)
    (h : ∀ L kp tr yd yo gf gd yf, oc_Out z kd nm (ev_S kd nm bg ev 0) L → yn_L z kd nm L gf gd yf → L.length < 700 → ys_Y kd nm bg ev yd yo n → post (nI n, gf, gd, kd, nm, mm_nD z, bg, V, R, H, mm_nD D, mm_nD yd, yo, rl, sm, kp, tr, yf)) : wpY_goThroughAll post (nI n, gf, gd, kd, nm, mm_nD z, bg, V, R, H, mm_nD D, mm_nD yd, yo, rl, sm, kp, tr, yf) := by
  have h8 := ev_n8 hP hO
  have key36 : ∀ L kp tr gf gd yf, oc_Out z kd nm (ev_S kd nm bg ev 0) L → yn_L z kd nm L gf gd yf → L.length < 700 → (∀ i, i < n → kp i = nI (ev i)) →
      ∀ d i V' R' H' D' yd yo, i + d = n → ev_S kd nm bg ev i = (V', R', H', D') → ys_Y kd nm bg ev yd yo i → wY_goThroughAll_36 post (nI n) (d + 1) (nI i) (nI i) gf gd kd nm (mm_nD z) bg V' R' H' (mm_nD D') (mm_nD yd) yo rl sm kp tr yf := by
    intro L kp tr gf gd yf hOut hL hl7 hkp d
    induction d with
    | zero =>
      intro i V' R' H' D' yd yo hi e hYi
      have : i = n := by omega
      subst this
      rw [hS] at e
      cases e
      exact br_t (nI_le (Nat.le_refl _) (by omega)) (h L kp tr yd yo gf gd yf hOut hL hl7 hYi)
    | succ d ih =>
      intro i V' R' H' D' yd yo hi e hYi
      have ei : (nI i).toNatClampNeg = i := nI_clamp (by omega)
      have vi : vp_in (nI i) 8 := vp_in_nI (by omega) (by omega)
      have ti := (hO.2 i (by omega)).1
      have he := (hO.2 i (by omega)).2
      have hWi := ev_W hP hO i (by omega)
      rw [e] at he hWi
      rw [wY_goThroughAll_36]
      refine br_f (nI_ge (by omega) (by omega)) ⟨vi, ?_⟩
      dsimp only
      rw [ei, hkp i (by omega)]
      refine yw_go (n := i) ti (by omega) hP (mm_lt hWi ti he) (fun V2 R2 H2 D2 yo' hs hy1 hy2 => nm_r (nI_1 i) (ih (i + 1) V2 R2 H2 D2 _ yo' (by omega) ?_ ?_))
      · rw [ev_S, e]; exact hs
      · have := (ys_go hYi e hy1 hy2).1
        rw [mm_un_self] at this
        exact this
  have key5 : ∀ m V' R' H' D' kp gf gd tr yf, m ≤ n → ev_S kd nm bg ev m = (V', R', H', D') → (∀ i, m ≤ i → i < n → kp i = nI (ev i)) → wY_goThroughAll_5 post (nI n) (m + 1) (nI m) gf gd kd nm (mm_nD z) bg V' R' H' (mm_nD D') (mm_nD yd) yo rl sm kp tr yf := by
    intro m
    induction m with
    | zero =>
      intro V' R' H' D' kp gf gd tr yf hm e hkp
      refine br_t (show nI 0 ≤ 0 from by decide) ?_
      have hO0 : ev_Ok z kd nm bg ev 0 := ⟨hO.1, fun i hi => absurd hi (Nat.not_lt_zero _)⟩
      refine yw_goThrough (n := 0) hP hO0 e ⟨fun i hi => absurd hi (Nat.not_lt_zero _), fun i hi => absurd hi (Nat.not_lt_zero _)⟩ (fun L tr yd yo gf gd yf hOut hL hl7 hY0 => ⟨n + 1, ?_⟩)
      rw [← e] at hOut
      exact key36 L kp tr gf gd yf hOut hL hl7 (fun i hi => hkp i (Nat.zero_le _) hi) n 0 V' R' H' D' yd yo (by omega) e hY0
    | succ m ih =>
      intro V' R' H' D' kp gf gd tr yf hm e hkp
      obtain ⟨V0, R0, H0, D0, e0⟩ : ∃ V0 R0 H0 D0, ev_S kd nm bg ev m = (V0, R0, H0, D0) := ⟨_, _, _, _, rfl⟩
      rw [ev_S, e0] at e
      have ti := (hO.2 m (by omega)).1
      have he := (hO.2 m (by omega)).2
      have hWi := ev_W hP hO m (by omega)
      rw [e0] at he hWi
      have em : (nI m).toNatClampNeg = m := nI_clamp (by omega)
      have vm : vp_in (nI m) 8 := vp_in_nI (by omega) (by omega)
      have hD : D0 = fun t => ev_c ev t m := by
        have a := ev_SD (kd := kd) (nm := nm) (bg := bg) (ev := ev) m
        rw [e0] at a
        exact a
      have hon : ev_o ev m = 4 * ev m + D0 (ev m) := by unfold ev_o; rw [hD]
      rw [wY_goThroughAll_5]
      refine br_f (nI_nle (by omega) (by omega)) ?_
      refine yw_undo (n := m) ti (by omega) hP (mm_lt hWi ti he) he e ((hY.1 m (by omega)).trans hon) (fun a b => ?_) ?_
      · have f := hY.2 m (by omega)
        rw [hon, e0] at f
        exact f a b
      · dsimp only
        rw [em]
        refine ⟨vm, nm_e (ih V0 R0 H0 D0 _ gf gd tr yf (by omega) e0 (fun i h1 h2 => ?_))⟩
        by_cases w : i = m
        · subst w; rw [pk_us]
        · rw [pk_un w]; exact hkp i (by omega) h2
  exact ⟨n + 1, key5 n V R H D kp gf gd tr yf (Nat.le_refl _) hS (fun i h1 h2 => by omega)⟩
theorem yw_greatest25 {post : Int32 → SY → Prop} {L : List MSt} {v : Nat} (hv : v < 2) (hL : yn_L z kd nm L gf gd yf) (hl : L.length < 700) (hne : 0 < L.length) (h : ∀ g, oc_gr L v g → post g (nI n, gf, gd, kd, nm, mm_nD z, bg, V, R, H, mm_nD D, mm_nD yd, yo, rl, sm, kp, tr, yf)) :
    ∃ n25, wY_greatest_25 post (nI v) (nI n) gf gd kd nm (mm_nD z) bg V R H (mm_nD D) (mm_nD yd) yo rl sm kp tr yf n25 (yf v) 1 := by
  have hval : ∀ (i : Nat) (s : MSt), L[i]? = some s → yf (6 * i + v) = s.1 v := by
    intro i s hs
    rw [hL.2.2.2.2 i s hs v (by omega)]
    rcases (by omega : v = 0 ∨ v = 1) with rfl | rfl <;> rfl
  have key : ∀ d k g, k + d = L.length → 0 < k → (∃ i s, i < k ∧ L[i]? = some s ∧ s.1 v = g) → (∀ i s, i < k → L[i]? = some s → s.1 v ≤ g) → wY_greatest_25 post (nI v) (nI n) gf gd kd nm (mm_nD z) bg V R H (mm_nD D) (mm_nD yd) yo rl sm kp tr yf (d + 1) g (nI k) := by
    intro d
    induction d with
    | zero =>
      intro k g hk hk0 h1 h2
      have : k = L.length := by omega
      subst this
      refine br_t (by rw [hL.2.2.1]; exact nI_le (Nat.le_refl _) (by omega)) (h g ⟨?_, fun s hs => ?_⟩)
      · obtain ⟨i, s, _, a, b⟩ := h1
        exact ⟨s, List.mem_iff_getElem?.mpr ⟨i, a⟩, b⟩
      · obtain ⟨i, hi⟩ := List.mem_iff_getElem?.mp hs
        refine h2 i s ?_ hi
        apply Nat.lt_of_not_le
        intro q
        rw [List.getElem?_eq_none q] at hi
        exact absurd hi (by simp)
    | succ d ih =>
      intro k g hk hk0 h1 h2
      obtain ⟨x, hx⟩ : ∃ x, L[k]? = some x := ⟨L[k]'(by omega), List.getElem?_eq_getElem (by omega)⟩
      have e1 : (nI (6 * k + v)).toNatClampNeg = 6 * k + v := nI_clamp (by omega)
      have v1 : vp_in (nI (6 * k + v)) 4200 := vp_in_nI (by omega) (by omega)
      have hxv := hval k x hx
      rw [wY_greatest_25]
      simp only [forall_eq, mm_nDa, true_and, and_true, true_implies, false_implies, not_false_eq_true, not_true_eq_false, mm_i10, eq_self, mm_6, e1, v1, hxv, nI_1]
      refine br_f (by rw [hL.2.2.1]; exact nI_ge (by omega) (by omega)) (br_c (fun a => ih (k + 1) g (by omega) (by omega) ?_ (fun i s hi hs => ?_)) (fun a => ih (k + 1) (x.1 v) (by omega) (by omega) ⟨k, x, by omega, hx, rfl⟩ (fun i s hi hs => ?_)))
      · obtain ⟨i, s, a1, a2, a3⟩ := h1
        exact ⟨i, s, by omega, a2, a3⟩
      · by_cases w : i = k
        · subst w
          rw [hx] at hs
          have : x = s := by simpa using hs
          rw [← this]; exact a
        · exact h2 i s (by omega) hs
      · by_cases w : i = k
        · subst w
          rw [hx] at hs
          have : x = s := by simpa using hs
          rw [← this]; exact Int32.le_refl _
        · exact Int32.le_trans (h2 i s (by omega) hs) (Int32.le_of_lt (Int32.not_le.mp a))
  obtain ⟨x, hx⟩ : ∃ x, L[0]? = some x := ⟨L[0]'(by omega), List.getElem?_eq_getElem (by omega)⟩
  have hx0 := hval 0 x hx
  rw [show 6 * 0 + v = v from by omega] at hx0
  rw [hx0]
  refine ⟨L.length - 1 + 1, key (L.length - 1) 1 (x.1 v) (by omega) (by omega) ⟨0, x, by omega, hx, rfl⟩ (fun i s hi hs => ?_)⟩
  have : i = 0 := by omega
  subst this
  rw [hx] at hs
  have : x = s := by simpa using hs
  rw [← this]
  exact Int32.le_refl _
end
end
section
/-! the owed statements: outcomes -/
section
variable {z D ev eo eh ck kc ep te yd : Nat → Nat} {kd nm bg R V H ol yo cu fg si tb pk rl sm kp tr yf : Nat → Int32} {n : Nat} {ff fo fd gf gd : Int32}
theorem rl_setY {yd' : Nat → Nat} {yo' : Nat → Int32} (hF : rl_F z D ev eo eh ck kc ep te yd kd nm bg R V H ol yo n) (hY : ys_Y kd nm bg ev yd' yo' n) : rl_F z D ev eo eh ck kc ep te yd' kd nm bg R V H ol yo' n :=
  ⟨hF.1, hF.2.1, hF.2.2.1, hF.2.2.2.1, hF.2.2.2.2.1, hF.2.2.2.2.2.1, hF.2.2.2.2.2.2.1, hY.1, hY.2⟩
theorem rl_getY (hF : rl_F z D ev eo eh ck kc ep te yd kd nm bg R V H ol yo n) : ys_Y kd nm bg ev yd yo n := ⟨hF.2.2.2.2.2.2.2.1, hF.2.2.2.2.2.2.2.2⟩
theorem oc_ne {L : List MSt} (hP : mm_P z kd nm) (hb : ∀ i, 2 ≤ i → bg i = 0) (h : oc_Out z kd nm (ev_S kd nm bg ev 0) L) : 0 < L.length := by
  obtain ⟨f, k, hf, hk⟩ := oc_some hP 8 (ev_S kd nm bg ev 0) (ev_W0 hb) (by have := hP.2.1; omega)
  exact List.length_pos_of_mem ((h.2 f).mpr ⟨hf, k, hk⟩)
theorem xw_outcomes {post : Int32 → SX → Prop} (hP : mm_P z kd nm) (hO : ev_Ok z kd nm bg ev n) (hS : ev_S kd nm bg ev n = (V, R, H, D))
    (h : ∀ T ff fo fd fg si tb pk, oc_Out z kd nm (ev_S kd nm bg ev 0) T → sr_O z T fo fd fg → post fo (nI n, ff, fo, fd, mm_nD z, kd, nm, bg, mm_nD D, R, V, H, mm_nD ev, mm_nD eo, mm_nD eh, ol, mm_nD ck, mm_nD kc, mm_nD ep, mm_nD te, cu, fg, si, tb, pk)) : wpX_outcomes post (nI n, ff, fo, fd, mm_nD z, kd, nm, bg, mm_nD D, R, V, H, mm_nD ev, mm_nD eo, mm_nD eh, ol, mm_nD ck, mm_nD kc, mm_nD ep, mm_nD te, cu, fg, si, tb, pk) := by
  unfold wpX_outcomes
  exact xw_searchAll hP hO hS (fun T ff fo fd fg si tb pk a b => h T ff fo fd fg si tb pk a b)
theorem xw_deadlocks {post : Int32 → SX → Prop} (hP : mm_P z kd nm) (hO : ev_Ok z kd nm bg ev n) (hS : ev_S kd nm bg ev n = (V, R, H, D))
    (h : ∀ T ff fo fd fg si tb pk, oc_Out z kd nm (ev_S kd nm bg ev 0) T → sr_O z T fo fd fg → post fd (nI n, ff, fo, fd, mm_nD z, kd, nm, bg, mm_nD D, R, V, H, mm_nD ev, mm_nD eo, mm_nD eh, ol, mm_nD ck, mm_nD kc, mm_nD ep, mm_nD te, cu, fg, si, tb, pk)) : wpX_deadlocks post (nI n, ff, fo, fd, mm_nD z, kd, nm, bg, mm_nD D, R, V, H, mm_nD ev, mm_nD eo, mm_nD eh, ol, mm_nD ck, mm_nD kc, mm_nD ep, mm_nD te, cu, fg, si, tb, pk) := by
  unfold wpX_deadlocks
  exact xw_searchAll hP hO hS (fun T ff fo fd fg si tb pk a b => h T ff fo fd fg si tb pk a b)
theorem xw_greatest {post : Int32 → SX → Prop} {p : Int32} (hP : mm_P z kd nm) (hO : ev_Ok z kd nm bg ev n) (hS : ev_S kd nm bg ev n = (V, R, H, D))
    (hb : (¬ ∃ m, m < 2 ∧ p = nI m) → post (-1000000001) (nI n, ff, fo, fd, mm_nD z, kd, nm, bg, mm_nD D, R, V, H, mm_nD ev, mm_nD eo, mm_nD eh, ol, mm_nD ck, mm_nD kc, mm_nD ep, mm_nD te, cu, fg, si, tb, pk))
    (h : ∀ v, v < 2 → p = nI v → ∀ T ff fo fd fg si tb pk, oc_Out z kd nm (ev_S kd nm bg ev 0) T → oc_gr T v (fg v) → post (fg v) (nI n, ff, fo, fd, mm_nD z, kd, nm, bg, mm_nD D, R, V, H, mm_nD ev, mm_nD eo, mm_nD eh, ol, mm_nD ck, mm_nD kc, mm_nD ep, mm_nD te, cu, fg, si, tb, pk)) : wpX_greatest post (nI n, ff, fo, fd, mm_nD z, kd, nm, bg, mm_nD D, R, V, H, mm_nD ev, mm_nD eo, mm_nD eh, ol, mm_nD ck, mm_nD kc, mm_nD ep, mm_nD te, cu, fg, si, tb, pk) p := by
  unfold wpX_greatest
  dsimp only
  by_cases q : ∃ m, m < 2 ∧ p = nI m
  · obtain ⟨v, hv, rfl⟩ := q
    have ev' : (nI v).toNatClampNeg = v := nI_clamp (by omega)
    have vv : vp_in (nI v) 2 := vp_in_nI hv (by omega)
    refine xw_b20 hv (br_t rfl (xw_searchAll hP hO hS (fun T ff fo fd fg si tb pk a b => ?_)))
    rw [ev']
    have hne := oc_ne hP hO.1 a
    exact ⟨vv, h v hv rfl T ff fo fd fg si tb pk a (b.2.2 (fun w => by rw [w] at hne; exact absurd hne (by decide)) v hv)⟩
  · exact xw_b21 (yw_bad (by omega) q) (br_f (by decide) (hb q))
theorem xw_ahead {post : Int32 → SX → Prop} (hP : mm_P z kd nm) (hW : mm_W z kd nm (V, R, H, D))
    (h : ∀ T ff fo fd fg si tb pk, oc_Out z kd nm (V, R, H, D) T → sr_O z T fo fd fg → post fo (nI n, ff, fo, fd, mm_nD z, kd, nm, bg, mm_nD D, R, V, H, mm_nD ev, mm_nD eo, mm_nD eh, ol, mm_nD ck, mm_nD kc, mm_nD ep, mm_nD te, cu, fg, si, tb, pk)) : wpX_ahead post (nI n, ff, fo, fd, mm_nD z, kd, nm, bg, mm_nD D, R, V, H, mm_nD ev, mm_nD eo, mm_nD eh, ol, mm_nD ck, mm_nD kc, mm_nD ep, mm_nD te, cu, fg, si, tb, pk) := by
  unfold wpX_ahead
  exact xw_search hP hW (fun T ff fo fd fg si tb pk a b => h T ff fo fd fg si tb pk a b)
theorem yw_outcomes {post : Int32 → SY → Prop} (hP : mm_P z kd nm) (hO : ev_Ok z kd nm bg ev n) (hS : ev_S kd nm bg ev n = (V, R, H, D)) (hY : ys_Y kd nm bg ev yd yo n)
    (h : ∀ L kp tr yd yo gf gd yf, oc_Out z kd nm (ev_S kd nm bg ev 0) L → yn_L z kd nm L gf gd yf → ys_Y kd nm bg ev yd yo n → post gf (nI n, gf, gd, kd, nm, mm_nD z, bg, V, R, H, mm_nD D, mm_nD yd, yo, rl, sm, kp, tr, yf)) : wpY_outcomes post (nI n, gf, gd, kd, nm, mm_nD z, bg, V, R, H, mm_nD D, mm_nD yd, yo, rl, sm, kp, tr, yf) := by
  unfold wpY_outcomes
  exact yw_goThroughAll hP hO hS hY (fun L kp tr yd yo gf gd yf a b _ c => h L kp tr yd yo gf gd yf a b c)
theorem yw_deadlocks {post : Int32 → SY → Prop} (hP : mm_P z kd nm) (hO : ev_Ok z kd nm bg ev n) (hS : ev_S kd nm bg ev n = (V, R, H, D)) (hY : ys_Y kd nm bg ev yd yo n)
    (h : ∀ L kp tr yd yo gf gd yf, oc_Out z kd nm (ev_S kd nm bg ev 0) L → yn_L z kd nm L gf gd yf → ys_Y kd nm bg ev yd yo n → post gd (nI n, gf, gd, kd, nm, mm_nD z, bg, V, R, H, mm_nD D, mm_nD yd, yo, rl, sm, kp, tr, yf)) : wpY_deadlocks post (nI n, gf, gd, kd, nm, mm_nD z, bg, V, R, H, mm_nD D, mm_nD yd, yo, rl, sm, kp, tr, yf) := by
  unfold wpY_deadlocks
  exact yw_goThroughAll hP hO hS hY (fun L kp tr yd yo gf gd yf a b _ c => h L kp tr yd yo gf gd yf a b c)
theorem yw_ahead {post : Int32 → SY → Prop} (hP : mm_P z kd nm) (hO : ev_Ok z kd nm bg ev n) (hS : ev_S kd nm bg ev n = (V, R, H, D)) (hY : ys_Y kd nm bg ev yd yo n)
    (h : ∀ L tr yd yo gf gd yf, oc_Out z kd nm (V, R, H, D) L → yn_L z kd nm L gf gd yf → ys_Y kd nm bg ev yd yo n → post gf (nI n, gf, gd, kd, nm, mm_nD z, bg, V, R, H, mm_nD D, mm_nD yd, yo, rl, sm, kp, tr, yf)) : wpY_ahead post (nI n, gf, gd, kd, nm, mm_nD z, bg, V, R, H, mm_nD D, mm_nD yd, yo, rl, sm, kp, tr, yf) := by
  unfold wpY_ahead
  exact yw_goThrough hP hO hS hY (fun L tr yd yo gf gd yf a b _ c => h L tr yd yo gf gd yf a b c)
theorem yw_greatest {post : Int32 → SY → Prop} {p : Int32} (hP : mm_P z kd nm) (hO : ev_Ok z kd nm bg ev n) (hS : ev_S kd nm bg ev n = (V, R, H, D)) (hY : ys_Y kd nm bg ev yd yo n)
    (hb : (¬ ∃ m, m < 2 ∧ p = nI m) → post (-1000000001) (nI n, gf, gd, kd, nm, mm_nD z, bg, V, R, H, mm_nD D, mm_nD yd, yo, rl, sm, kp, tr, yf))
    (h : ∀ v, v < 2 → p = nI v → ∀ L g kp tr yd yo gf gd yf, oc_Out z kd nm (ev_S kd nm bg ev 0) L → oc_gr L v g → ys_Y kd nm bg ev yd yo n → post g (nI n, gf, gd, kd, nm, mm_nD z, bg, V, R, H, mm_nD D, mm_nD yd, yo, rl, sm, kp, tr, yf)) : wpY_greatest post (nI n, gf, gd, kd, nm, mm_nD z, bg, V, R, H, mm_nD D, mm_nD yd, yo, rl, sm, kp, tr, yf) p := by
  unfold wpY_greatest
  dsimp only
  by_cases q : ∃ m, m < 2 ∧ p = nI m
  · obtain ⟨v, hv, rfl⟩ := q
    have ev' : (nI v).toNatClampNeg = v := nI_clamp (by omega)
    have vv : vp_in (nI v) 4200 := vp_in_nI (by omega) (by omega)
    refine yw_in1 (h := 1) (by omega) (by omega) (br_f (by decide) (yw_goThroughAll hP hO hS hY (fun L kp tr yd yo gf gd yf a b l7 c => ?_)))
    rw [ev']
    exact ⟨vv, nm_e (yw_greatest25 hv b l7 (oc_ne hP hO.1 a) (fun g hg => h v hv rfl L g kp tr yd yo gf gd yf a hg c))⟩
  · exact yw_in0 (h := 1) (by omega) (yw_bad (by omega) q) (br_t rfl (hb q))
end
theorem i_vc_outcomes {k : Nat} {u : SX} {v : SY} (I : i_Rel k u v) (hk : k + 4 ≤ 2048) : wpX_outcomes (fun r u' => wpY_outcomes (fun r' v' => r' = r ∧ i_Rel (k + 4) u' v') v) u := by
  refine rl_el (P := fun u v => wpX_outcomes (fun r u' => wpY_outcomes (fun r' v' => r' = r ∧ i_Rel (k + 4) u' v') v) u) ?_ I
  intro z D ev eo eh ck kc ep te yd kd nm bg R V H ol cu fg si tb pk yo rl sm kp tr yf n ff fo fd gf gd hF
  refine xw_outcomes hF.1 hF.2.1 hF.2.2.1 (fun T ff fo fd fg si tb pk hT hO => ?_)
  exact yw_outcomes hF.1 hF.2.1 hF.2.2.1 (rl_getY hF) (fun L kp tr yd yo gf gd yf hL hN hY => ⟨by rw [hO.1, hN.2.2.1, oc_len hT hL], rl_mk (rl_setY hF hY)⟩)
theorem i_vc_deadlocks {k : Nat} {u : SX} {v : SY} (I : i_Rel k u v) (hk : k + 4 ≤ 2048) : wpX_deadlocks (fun r u' => wpY_deadlocks (fun r' v' => r' = r ∧ i_Rel (k + 4) u' v') v) u := by
  refine rl_el (P := fun u v => wpX_deadlocks (fun r u' => wpY_deadlocks (fun r' v' => r' = r ∧ i_Rel (k + 4) u' v') v) u) ?_ I
  intro z D ev eo eh ck kc ep te yd kd nm bg R V H ol cu fg si tb pk yo rl sm kp tr yf n ff fo fd gf gd hF
  refine xw_deadlocks hF.1 hF.2.1 hF.2.2.1 (fun T ff fo fd fg si tb pk hT hO => ?_)
  exact yw_deadlocks hF.1 hF.2.1 hF.2.2.1 (rl_getY hF) (fun L kp tr yd yo gf gd yf hL hN hY => ⟨by rw [hO.2.1, hN.2.2.2.1, oc_cnt hT hL], rl_mk (rl_setY hF hY)⟩)
theorem i_vc_greatest {k : Nat} {u : SX} {v : SY} (I : i_Rel k u v) (hk : k + 4 ≤ 2048) (v1 : Int32) : wpX_greatest (fun r u' => wpY_greatest (fun r' v' => r' = r ∧ i_Rel (k + 4) u' v') v v1) u v1 := by
  refine rl_el (P := fun u v => wpX_greatest (fun r u' => wpY_greatest (fun r' v' => r' = r ∧ i_Rel (k + 4) u' v') v v1) u v1) ?_ I
  intro z D ev eo eh ck kc ep te yd kd nm bg R V H ol cu fg si tb pk yo rl sm kp tr yf n ff fo fd gf gd hF
  refine xw_greatest hF.1 hF.2.1 hF.2.2.1 (fun q => ?_) (fun w hw ew T ff fo fd fg si tb pk hT hg => ?_)
  · exact yw_greatest hF.1 hF.2.1 hF.2.2.1 (rl_getY hF) (fun _ => ⟨rfl, rl_mk hF⟩) (fun w hw ew => absurd ⟨w, hw, ew⟩ q)
  · refine yw_greatest hF.1 hF.2.1 hF.2.2.1 (rl_getY hF) (fun q => absurd ⟨w, hw, ew⟩ q) (fun w' hw' ew' L g kp tr yd yo gf gd yf hL hg' hY => ?_)
    have e : w = w' := (mm_nIe (by omega) (by omega)).mp (ew.symm.trans ew')
    subst e
    exact ⟨(oc_gr_eq hT hL hg hg').symm, rl_mk (rl_setY hF hY)⟩
theorem i_vc_ahead {k : Nat} {u : SX} {v : SY} (I : i_Rel k u v) (hk : k + 4 ≤ 2048) : wpX_ahead (fun r u' => wpY_ahead (fun r' v' => r' = r ∧ i_Rel (k + 4) u' v') v) u := by
  refine rl_el (P := fun u v => wpX_ahead (fun r u' => wpY_ahead (fun r' v' => r' = r ∧ i_Rel (k + 4) u' v') v) u) ?_ I
  intro z D ev eo eh ck kc ep te yd kd nm bg R V H ol cu fg si tb pk yo rl sm kp tr yf n ff fo fd gf gd hF
  refine xw_ahead hF.1 (rl_W hF) (fun T ff fo fd fg si tb pk hT hO => ?_)
  exact yw_ahead hF.1 hF.2.1 hF.2.2.1 (rl_getY hF) (fun L tr yd yo gf gd yf hL hN hY => ⟨by rw [hO.1, hN.2.2.1, oc_len hT hL], rl_mk (rl_setY hF hY)⟩)
end
