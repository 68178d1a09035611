section
/-! rows pasted from the kit (kit/rows: PURE-ROWS, BITS) -/
theorem pk_us {f : Nat → Int32} {k : Nat} {x : Int32} : upd f k x k = x := if_pos rfl
theorem pk_un {f : Nat → Int32} {k j : Nat} {x : Int32} (h : j ≠ k) : upd f k x j = f j := if_neg h
theorem pk_uLs {f : Nat → Int64} {k : Nat} {x : Int64} : vp_updL f k x k = x := if_pos rfl
theorem pk_uLn {f : Nat → Int64} {k j : Nat} {x : Int64} (h : j ≠ k) : vp_updL f k x j = f j := if_neg h
theorem pk_sub {a b : Nat} (h : b ≤ a) : nI a - nI b = nI (a - b) := by
  obtain ⟨c, rfl⟩ : ∃ c, a = c + b := ⟨a - b, by omega⟩
  rw [← nI_add, Int32.add_sub_cancel, Nat.add_sub_cancel]
theorem pk_m1 (n : Nat) : nI (n + 1) + (-1) = nI n := by
  rw [← nI_1, Int32.add_assoc, show (1 : Int32) + (-1) = 0 from rfl, Int32.add_zero]
theorem pk_mul (a b : Nat) : nI a * nI b = nI (a * b) := (Int32.ofNat_mul a b).symm
theorem pk_div {a d : Nat} (ha : a < 2 ^ 31) (h0 : 0 < d) (hd : d < 2 ^ 31) : nI a / nI d = nI (a / d) := by
  apply Int32.toInt_inj.mp
  rw [lg_idiv_nonneg (by rw [nI_toInt ha]; omega) (by rw [nI_toInt hd]; omega), nI_toInt ha, nI_toInt hd, nI_toInt (Nat.lt_of_le_of_lt (Nat.div_le_self a d) ha)]
  first | rfl | exact (Int.natCast_ediv _ _).symm
theorem pk_rem {a d : Nat} (ha : a < 2 ^ 31) (h0 : 0 < d) (hd : d < 2 ^ 31) : nI a - nI a / nI d * nI d = nI (a % d) := by
  rw [pk_div ha h0 hd, pk_mul, pk_sub (Nat.div_mul_le_self a d)]
  exact congrArg nI (by have := Nat.div_add_mod' a d; omega)
theorem pk_sub_toInt {a b : Nat} (ha : a < 2 ^ 30) (hb : b < 2 ^ 30) : (nI a - nI b).toInt = (a : Int) - b := by
  rw [Int32.toInt_sub, nI_toInt (by omega), nI_toInt (by omega)]
  exact Int.bmod_eq_of_le (by omega) (by omega)
theorem pk_sneg {a b : Nat} (hb : b < 2 ^ 30) (h : a < b) : nI a - nI b < 0 := by
  rw [Int32.lt_iff_toInt_lt, pk_sub_toInt (by omega) hb, show (0 : Int32).toInt = 0 from by decide]
  omega
theorem pk_ix (x : Int32) {n : Nat} (hn : n < 2 ^ 31) : x < 0 ∨ nI n ≤ x ∨ ∃ j : Nat, j < n ∧ x = nI j := by
  by_cases h : x < 0
  · exact Or.inl h
  · obtain ⟨j, hj, rfl⟩ := nI_of h
    by_cases h2 : j < n
    · exact Or.inr (Or.inr ⟨j, h2, rfl⟩)
    · exact Or.inr (Or.inl (nI_le (by omega) hj))
theorem pk_le {x y : Int32} {A B : Prop} (a b : Nat) (f : a ≤ b → A) (g : b < a → B) (hx : x = nI a := by rfl) (hy : y = nI b := by rfl) (ha : a < 2 ^ 31 := by omega) (hb : b < 2 ^ 31 := by omega) : (x ≤ y → A) ∧ (¬ x ≤ y → B) := by
  subst hx hy
  rw [nI_leI ha hb]
  exact ⟨f, fun z => g (by omega)⟩
theorem pk_lt {x y : Int32} {A B : Prop} (a b : Nat) (f : a < b → A) (g : b ≤ a → B) (hx : x = nI a := by rfl) (hy : y = nI b := by rfl) (ha : a < 2 ^ 31 := by omega) (hb : b < 2 ^ 31 := by omega) : (x < y → A) ∧ (¬ x < y → B) := by
  subst hx hy
  rw [nI_ltI ha hb]
  exact ⟨f, fun z => g (by omega)⟩
theorem pk_eq {x y : Int32} {A B : Prop} (a b : Nat) (f : a = b → A) (g : a ≠ b → B) (hx : x = nI a := by rfl) (hy : y = nI b := by rfl) (ha : a < 2 ^ 31 := by omega) (hb : b < 2 ^ 31 := by omega) : (x = y → A) ∧ (¬ x = y → B) := by
  subst hx hy
  rw [nI_eq ha hb]
  exact ⟨f, g⟩
theorem pk_in {x : Int32} (n N : Nat) (h : n < N) (hx : x = nI n := by rfl) (hN : N < 2 ^ 31 := by omega) : vp_in x N := by
  subst hx
  exact vp_in_nI h hN
theorem pk_cl {x : Int32} (n : Nat) (hx : x = nI n := by rfl) (h : n < 2 ^ 31 := by omega) : x.toNatClampNeg = n := by
  subst hx
  exact nI_clamp h
theorem pk_tn {n : Nat} (h : n < 2 ^ 32) : (nI n).toBitVec.toNat = n := Nat.mod_eq_of_lt h
theorem pk_and (x : Int32) {m : Int32} (k : Nat) (hm : m.toBitVec.toNat = 2 ^ k - 1) : x &&& m = nI (x.toBitVec.toNat % 2 ^ k) := by
  apply Int32.toBitVec_inj.mp
  apply BitVec.eq_of_toNat_eq
  rw [Int32.toBitVec_and, BitVec.toNat_and, hm, Nat.and_two_pow_sub_one_eq_mod]
  show _ = (BitVec.ofNat 32 _).toNat
  rw [BitVec.toNat_ofNat]
  exact (Nat.mod_eq_of_lt (Nat.lt_of_le_of_lt (Nat.mod_le _ _) x.toBitVec.isLt)).symm
theorem pk_andN {n : Nat} (h : n < 2 ^ 32) {m : Int32} (k : Nat) (hm : m.toBitVec.toNat = 2 ^ k - 1) : nI n &&& m = nI (n % 2 ^ k) := by
  rw [pk_and _ k hm, pk_tn h]
theorem pk_andE (x : Int32) {m : Int32} (k : Nat) (hm : m.toBitVec.toNat = 2 ^ k - 1) : ∃ j : Nat, j < 2 ^ k ∧ x &&& m = nI j := ⟨_, Nat.mod_lt _ (Nat.two_pow_pos k), pk_and x k hm⟩
theorem pk_andIn (x : Int32) {m : Int32} (k : Nat) (hm : m.toBitVec.toNat = 2 ^ k - 1) (hk : k ≤ 30) : vp_in (x &&& m) (2 ^ k) := by
  obtain ⟨j, hj, e⟩ := pk_andE x k hm
  rw [e]
  exact vp_in_nI hj (Nat.lt_of_le_of_lt (Nat.pow_le_pow_right (by decide) hk) (by decide))
theorem pk_shl (a s : Int32) (k : Nat) (hs : (s.toBitVec.smod 32).toNat = k) : (a <<< s).toBitVec.toNat = a.toBitVec.toNat * 2 ^ k % 2 ^ 32 := by
  show (a.toBitVec <<< (s.toBitVec.smod 32).toNat).toNat = _
  rw [hs, BitVec.toNat_shiftLeft, Nat.shiftLeft_eq]
theorem pk_shlN {n : Nat} (s : Int32) (k : Nat) (hs : (s.toBitVec.smod 32).toNat = k) (h : n * 2 ^ k < 2 ^ 32) : nI n <<< s = nI (n * 2 ^ k) := by
  apply Int32.toBitVec_inj.mp
  apply BitVec.eq_of_toNat_eq
  have hn : n < 2 ^ 32 := Nat.lt_of_le_of_lt (Nat.le_mul_of_pos_right n (Nat.two_pow_pos k)) h
  rw [pk_shl _ _ k hs, pk_tn hn, pk_tn h, Nat.mod_eq_of_lt h]
theorem pk_shr (a s : Int32) (k : Nat) (hs : (s.toBitVec.smod 32).toNat = k) : (a >>> s).toInt = a.toInt >>> k := by
  show (a.toBitVec.sshiftRight (s.toBitVec.smod 32).toNat).toInt = _
  rw [hs, BitVec.toInt_sshiftRight]
  rfl
theorem pk_shrN {n : Nat} (h : n < 2 ^ 31) (s : Int32) (k : Nat) (hs : (s.toBitVec.smod 32).toNat = k) : nI n >>> s = nI (n / 2 ^ k) := by
  apply Int32.toInt_inj.mp
  have h2 : n / 2 ^ k ≤ n := Nat.div_le_self _ _
  rw [pk_shr _ _ k hs, nI_toInt h, nI_toInt (by omega), Int.shiftRight_eq_div_pow]
  rfl
theorem wb_tb (n : Nat) : (lN n).toBitVec = BitVec.ofNat 64 n := rfl
theorem wb_inj {a b : Int64} (h : a.toBitVec = b.toBitVec) : a = b := Int64.toBitVec_inj.mp h
theorem wb_tn {n : Nat} (h : n < 2 ^ 64) : (lN n).toBitVec.toNat = n := by rw [wb_tb, BitVec.toNat_ofNat, Nat.mod_eq_of_lt h]
theorem wb_of (x : Int64) : ∃ n, n < 2 ^ 64 ∧ x = lN n := ⟨x.toBitVec.toNat, x.toBitVec.isLt, wb_inj (by rw [wb_tb]; simp)⟩
theorem wb_of32 (x : Int32) : ∃ n, n < 2 ^ 32 ∧ x = nI n := ⟨x.toBitVec.toNat, x.toBitVec.isLt, Int32.toBitVec_inj.mp (by show _ = BitVec.ofNat 32 _; simp)⟩
theorem wb_c : ∀ k, k < 64 → ((nI k).toInt64 &&& 63) = lN k := by decide +kernel
theorem wb_cu : ∀ k, k < 64 → ((nI k).toInt64.toUInt64 &&& Int64.toUInt64 63) = UInt64.ofNat k := by decide +kernel
theorem wb_sm : ∀ k, k < 64 → (BitVec.ofNat 64 k).smod 64 = BitVec.ofNat 64 k := by decide +kernel
theorem wb_pw {a b : Nat} (h : a ≤ b) : 2 ^ b = 2 ^ a * 2 ^ (b - a) := by rw [← Nat.pow_add]; congr 1; omega
theorem wb_lt2 {a b : Nat} (h : a < b) : 2 ^ a < 2 ^ b := Nat.pow_lt_pow_right (by decide) h
theorem wb_mod (n : Nat) : lN n = lN (n % 2 ^ 64) := wb_inj (by rw [wb_tb, wb_tb]; apply BitVec.eq_of_toNat_eq; rw [BitVec.toNat_ofNat, BitVec.toNat_ofNat, Nat.mod_mod])
theorem wb_shr {n k : Nat} (hn : n < 2 ^ 64) (hk : k < 64) : ((lN n).toUInt64 >>> ((nI k).toInt64.toUInt64 &&& Int64.toUInt64 63)).toInt64 = lN (n / 2 ^ k) := by
  rw [wb_cu k hk]
  apply wb_inj
  apply BitVec.eq_of_toNat_eq
  show ((lN n).toUInt64 >>> UInt64.ofNat k).toNat = (BitVec.ofNat 64 _).toNat
  have h1 : (UInt64.ofNat k).toNat = k := by
    show (BitVec.ofNat 64 k).toNat = k
    rw [BitVec.toNat_ofNat, Nat.mod_eq_of_lt (by omega)]
  have h2 : (lN n).toUInt64.toNat = n := wb_tn hn
  rw [UInt64.toNat_shiftRight, h1, h2, Nat.mod_eq_of_lt hk, Nat.shiftRight_eq_div_pow, BitVec.toNat_ofNat, Nat.mod_eq_of_lt (Nat.lt_of_le_of_lt (Nat.div_le_self _ _) hn)]
theorem wb_shl (n : Nat) {k : Nat} (hk : k < 64) : lN n <<< ((nI k).toInt64 &&& 63) = lN (n * 2 ^ k) := by
  rw [wb_c k hk]
  apply wb_inj
  rw [Int64.toBitVec_shiftLeft, wb_tb, wb_tb, wb_tb, wb_sm k hk]
  apply BitVec.eq_of_toNat_eq
  rw [BitVec.shiftLeft_eq', BitVec.toNat_shiftLeft, BitVec.toNat_ofNat, BitVec.toNat_ofNat, BitVec.toNat_ofNat, Nat.mod_eq_of_lt (show k < 2 ^ 64 by omega), Nat.shiftLeft_eq, Nat.mul_mod, Nat.mod_mod, ← Nat.mul_mod]
theorem wb_and {a b : Nat} (ha : a < 2 ^ 64) (hb : b < 2 ^ 64) : lN a &&& lN b = lN (a &&& b) := by
  apply wb_inj
  rw [Int64.toBitVec_and, wb_tb, wb_tb, wb_tb]
  apply BitVec.eq_of_toNat_eq
  rw [BitVec.toNat_and, BitVec.toNat_ofNat, BitVec.toNat_ofNat, BitVec.toNat_ofNat, Nat.mod_eq_of_lt ha, Nat.mod_eq_of_lt hb, Nat.mod_eq_of_lt (Nat.and_lt_two_pow _ hb)]
theorem wb_or {a b : Nat} (ha : a < 2 ^ 64) (hb : b < 2 ^ 64) : lN a ||| lN b = lN (a ||| b) := by
  apply wb_inj
  rw [Int64.toBitVec_or, wb_tb, wb_tb, wb_tb]
  apply BitVec.eq_of_toNat_eq
  rw [BitVec.toNat_or, BitVec.toNat_ofNat, BitVec.toNat_ofNat, BitVec.toNat_ofNat, Nat.mod_eq_of_lt ha, Nat.mod_eq_of_lt hb, Nat.mod_eq_of_lt (Nat.or_lt_two_pow ha hb)]
theorem wb_mask {n k : Nat} (hn : n < 2 ^ 64) (hk : k < 64) : lN n &&& lN (2 ^ k - 1) = lN (n % 2 ^ k) := by
  rw [wb_and hn (by have := wb_lt2 hk; omega), Nat.and_two_pow_sub_one_eq_mod]
theorem wb_a1 {n : Nat} (hn : n < 2 ^ 64) : lN n &&& 1 = lN (n % 2) := wb_mask (k := 1) hn (by decide)
theorem wb_bit {n k : Nat} (hn : n < 2 ^ 64) (hk : k < 64) : ((lN n).toUInt64 >>> ((nI k).toInt64.toUInt64 &&& Int64.toUInt64 63)).toInt64 &&& 1 = lN (n / 2 ^ k % 2) := by
  rw [wb_shr hn hk, wb_a1 (Nat.lt_of_le_of_lt (Nat.div_le_self _ _) hn)]
end
section
/-! the plain law: counts, the greatest, insertion into the sorted list -/
/-- how many of g 0 .. g (m - 1) are less than t -/
def zr_cnt (g : Nat → Nat) : Nat → Nat → Nat
  | 0, _ => 0
  | m + 1, t => zr_cnt g m t + (if g m < t then 1 else 0)
/-- the greatest of g 0 .. g (m - 1), or 0 -/
def zr_mx (g : Nat → Nat) : Nat → Nat
  | 0 => 0
  | m + 1 => if g m ≤ zr_mx g m then zr_mx g m else g m
/-- g with s at m -/
def zr_ext (g : Nat → Nat) (m s : Nat) : Nat → Nat := fun i => if i = m then s else g i
/-- h with s put in at c -/
def zr_ins (h : Nat → Nat) (c s : Nat) : Nat → Nat := fun i => if i < c then h i else if i = c then s else h (i - 1)
theorem zr_cnt_s (g : Nat → Nat) (m t : Nat) : zr_cnt g (m + 1) t = zr_cnt g m t + (if g m < t then 1 else 0) := rfl
theorem zr_cnt_0 (g : Nat → Nat) (t : Nat) : zr_cnt g 0 t = 0 := rfl
theorem zr_mx_s (g : Nat → Nat) (m : Nat) : zr_mx g (m + 1) = if g m ≤ zr_mx g m then zr_mx g m else g m := rfl
theorem zr_cnt_mono (g : Nat → Nat) {s t : Nat} (h : s ≤ t) : ∀ m, zr_cnt g m s ≤ zr_cnt g m t := by
  intro m
  induction m with
  | zero => exact Nat.le_refl _
  | succ m ih =>
    rw [zr_cnt_s, zr_cnt_s]
    by_cases a : g m < s
    · rw [if_pos a, if_pos (by omega)]; omega
    · rw [if_neg a]; omega
theorem zr_cnt_le (g : Nat → Nat) (t : Nat) : ∀ m, zr_cnt g m t ≤ m := by
  intro m
  induction m with
  | zero => exact Nat.le_refl _
  | succ m ih =>
    rw [zr_cnt_s]
    by_cases a : g m < t
    · rw [if_pos a]; omega
    · rw [if_neg a]; omega
theorem zr_mx_ge (g : Nat → Nat) : ∀ m i, i < m → g i ≤ zr_mx g m := by
  intro m
  induction m with
  | zero => intro i hi; omega
  | succ m ih =>
    intro i hi
    rw [zr_mx_s]
    by_cases e : i = m
    · subst e
      by_cases a : g i ≤ zr_mx g i
      · rw [if_pos a]; exact a
      · rw [if_neg a]; exact Nat.le_refl _
    · have := ih i (by omega)
      by_cases a : g m ≤ zr_mx g m
      · rw [if_pos a]; exact this
      · rw [if_neg a]; omega
theorem zr_cnt_top (g : Nat → Nat) {t : Nat} : ∀ m, (∀ i, i < m → g i < t) → zr_cnt g m t = m := by
  intro m
  induction m with
  | zero => intro _; rfl
  | succ m ih =>
    intro h
    rw [zr_cnt_s, if_pos (h m (by omega)), ih (fun i hi => h i (by omega))]
theorem zr_cnt_in (g : Nat → Nat) (n : Nat) : ∀ m, zr_cnt g m n < zr_cnt g m (n + 1) ↔ ∃ i, i < m ∧ g i = n := by
  intro m
  induction m with
  | zero => exact ⟨fun h => absurd h (Nat.lt_irrefl _), fun ⟨i, hi, _⟩ => absurd hi (Nat.not_lt_zero i)⟩
  | succ m ih =>
    have mo := zr_cnt_mono g (Nat.le_succ n) m
    rw [zr_cnt_s, zr_cnt_s]
    by_cases e : g m = n
    · rw [if_neg (by omega), if_pos (by omega)]
      exact ⟨fun _ => ⟨m, by omega, e⟩, fun _ => by show _ < zr_cnt g m (n + 1) + 1; have : zr_cnt g m n ≤ zr_cnt g m (n + 1) := mo; omega⟩
    · have k : (if g m < n then 1 else 0) = (if g m < n + 1 then 1 else 0) := by
        by_cases a : g m < n
        · rw [if_pos a, if_pos (by omega)]
        · rw [if_neg a, if_neg (by omega)]
      rw [k]
      constructor
      · intro h
        obtain ⟨i, hi, hg⟩ := ih.mp (by omega)
        exact ⟨i, by omega, hg⟩
      · rintro ⟨i, hi, hg⟩
        have : i ≠ m := fun z => e (z ▸ hg)
        have := ih.mpr ⟨i, by omega, hg⟩
        omega
theorem zr_cnt_congr {g g' : Nat → Nat} (t : Nat) : ∀ m, (∀ i, i < m → g i = g' i) → zr_cnt g m t = zr_cnt g' m t := by
  intro m
  induction m with
  | zero => intro _; rfl
  | succ m ih =>
    intro h
    rw [zr_cnt_s, zr_cnt_s, ih (fun i hi => h i (by omega)), h m (by omega)]
theorem zr_mx_congr {g g' : Nat → Nat} : ∀ m, (∀ i, i < m → g i = g' i) → zr_mx g m = zr_mx g' m := by
  intro m
  induction m with
  | zero => intro _; rfl
  | succ m ih =>
    intro h
    rw [zr_mx_s, zr_mx_s, ih (fun i hi => h i (by omega)), h m (by omega)]
theorem zr_ext_m (g : Nat → Nat) (m s : Nat) : zr_ext g m s m = s := if_pos rfl
theorem zr_ext_n (g : Nat → Nat) {m i : Nat} (s : Nat) (h : i < m) : zr_ext g m s i = g i := if_neg (by omega)
theorem zr_ext_cnt (g : Nat → Nat) (m s t : Nat) : zr_cnt (zr_ext g m s) (m + 1) t = zr_cnt g m t + (if s < t then 1 else 0) := by
  rw [zr_cnt_s, zr_ext_m, zr_cnt_congr t m (fun i hi => zr_ext_n g s hi)]
theorem zr_ext_mx (g : Nat → Nat) (m s : Nat) : zr_mx (zr_ext g m s) (m + 1) = if s ≤ zr_mx g m then zr_mx g m else s := by
  rw [zr_mx_s, zr_ext_m, zr_mx_congr m (fun i hi => zr_ext_n g s hi)]
theorem zr_ins_ok {g h : Nat → Nat} {m : Nat} (s : Nat) (H : ∀ i, i < m → ∀ t, h i < t ↔ i < zr_cnt g m t) :
    ∀ i, i < m + 1 → ∀ t, zr_ins h (zr_cnt g m s) s i < t ↔ i < zr_cnt (zr_ext g m s) (m + 1) t := by
  intro i hi t
  rw [zr_ext_cnt]
  have cl := zr_cnt_le g s m
  have K : (s < t ∧ zr_cnt g m s ≤ zr_cnt g m t ∧ (if s < t then 1 else 0) = 1) ∨ (t ≤ s ∧ zr_cnt g m t ≤ zr_cnt g m s ∧ (if s < t then 1 else 0) = 0) := by
    by_cases a : s < t
    · exact Or.inl ⟨a, zr_cnt_mono g (by omega) m, if_pos a⟩
    · exact Or.inr ⟨by omega, zr_cnt_mono g (by omega) m, if_neg a⟩
  unfold zr_ins
  by_cases a : i < zr_cnt g m s
  · rw [if_pos a]
    have := H i (by omega) t
    rcases K with ⟨k1, k2, k3⟩ | ⟨k1, k2, k3⟩ <;> rw [k3] <;> omega
  · rw [if_neg a]
    by_cases b : i = zr_cnt g m s
    · rw [if_pos b]
      rcases K with ⟨k1, k2, k3⟩ | ⟨k1, k2, k3⟩ <;> rw [k3] <;> omega
    · rw [if_neg b]
      have := H (i - 1) (by omega) t
      rcases K with ⟨k1, k2, k3⟩ | ⟨k1, k2, k3⟩ <;> rw [k3] <;> omega
theorem zr_find {g h : Nat → Nat} {m n : Nat} (H : ∀ i, i < m → ∀ t, h i < t ↔ i < zr_cnt g m t) :
    (zr_cnt g m n < m ∧ h (zr_cnt g m n) = n) ↔ ∃ i, i < m ∧ g i = n := by
  rw [← zr_cnt_in]
  have l1 := zr_cnt_le g (n + 1) m
  constructor
  · rintro ⟨a, b⟩
    exact (H _ a (n + 1)).mp (by omega)
  · intro a
    have c := H (zr_cnt g m n) (by omega)
    have c1 := (c (n + 1)).mpr a
    have c2 := c n
    exact ⟨by omega, by omega⟩
theorem zr_hle {g h : Nat → Nat} {m : Nat} (H : ∀ i, i < m → ∀ t, h i < t ↔ i < zr_cnt g m t) : ∀ i, i < m → h i ≤ zr_mx g m := by
  intro i hi
  have c := zr_cnt_top g (t := zr_mx g m + 1) m (fun i hi => by have := zr_mx_ge g m i hi; omega)
  have := (H i hi (zr_mx g m + 1)).mpr (by omega)
  omega
/-- the number of a low part, less 256 -/
theorem zr_N {T W low : Nat} (hW : W ≤ 64) (hl : low < 256) : ∃ N, N % 256 = low ∧ T + 257 ≤ N + W ∧ N + W < T + 513 := by
  refine ⟨(T + 257 - W) + (low + 256 - (T + 257 - W) % 256) % 256, ?_, ?_, ?_⟩ <;> omega
end
section
/-! the sum of bits by bytes -/
/-- how many of f 0 .. f (n - 1) are true -/
def zr_bs (f : Nat → Bool) : Nat → Nat
  | 0 => 0
  | n + 1 => zr_bs f n + (if f n = true then 1 else 0)
theorem zr_bs_s (f : Nat → Bool) (n : Nat) : zr_bs f (n + 1) = zr_bs f n + (if f n = true then 1 else 0) := rfl
theorem zr_bs_congr {f g : Nat → Bool} : ∀ n, (∀ j, j < n → f j = g j) → zr_bs f n = zr_bs g n := by
  intro n
  induction n with
  | zero => intro _; rfl
  | succ n ih =>
    intro h
    rw [zr_bs_s, zr_bs_s, ih (fun j hj => h j (by omega)), h n (by omega)]
theorem zr_bs_split (f : Nat → Bool) (a : Nat) : ∀ k, zr_bs f (a + k) = zr_bs f a + zr_bs (fun j => f (j + a)) k := by
  intro k
  induction k with
  | zero => rfl
  | succ k ih =>
    rw [← Nat.add_assoc, zr_bs_s, ih, zr_bs_s, Nat.add_comm k a]
    omega
theorem zr_bs_le (f : Nat → Bool) : ∀ n, zr_bs f n ≤ n := by
  intro n
  induction n with
  | zero => exact Nat.le_refl _
  | succ n ih =>
    rw [zr_bs_s]
    by_cases h : f n = true
    · rw [if_pos h]; omega
    · rw [if_neg h]; omega
/-- n bytes d -/
def zr_M (d : Nat) : Nat → Nat
  | 0 => 0
  | n + 1 => 256 * zr_M d n + d
theorem zr_M_s (d n : Nat) : zr_M d (n + 1) = 256 * zr_M d n + d := rfl
theorem zr_and {a b c d : Nat} (hc : c < 256) (hd : d < 256) : (256 * a + c) &&& (256 * b + d) = 256 * (a &&& b) + (c &&& d) := by
  have h1 := Nat.and_div_two_pow (a := 256 * a + c) (b := 256 * b + d) (n := 8)
  have h2 := Nat.and_mod_two_pow (a := 256 * a + c) (b := 256 * b + d) (n := 8)
  rw [show (2 : Nat) ^ 8 = 256 from rfl] at h1 h2
  rw [show (256 * a + c) / 256 = a by omega, show (256 * b + d) / 256 = b by omega] at h1
  rw [show (256 * a + c) % 256 = c by omega, show (256 * b + d) % 256 = d by omega] at h2
  generalize (256 * a + c) &&& (256 * b + d) = x at h1 h2 ⊢
  generalize a &&& b = p at h1 h2 ⊢
  generalize c &&& d = q at h1 h2 ⊢
  omega
def zr_s1 (n x : Nat) : Nat := x - ((x / 2) &&& zr_M 85 n)
def zr_s2 (n y : Nat) : Nat := (y &&& zr_M 51 n) + ((y / 4) &&& zr_M 51 n)
def zr_s3 (n z : Nat) : Nat := (z + z / 16) &&& zr_M 15 n
def zr_r1 (r : Nat) : Nat := r - ((r / 2) &&& 85)
def zr_r2 (r : Nat) : Nat := (r &&& 51) + ((r / 4) &&& 51)
def zr_r3 (r : Nat) : Nat := (r + r / 16) &&& 15
theorem zr_k1 : ∀ a, a < 2 → ∀ r, r < 256 → (128 * a + r / 2) &&& 85 = (r / 2) &&& 85 := by decide +kernel
theorem zr_k2 : ∀ a, a < 4 → ∀ r, r < 256 → (64 * a + r / 4) &&& 51 = (r / 4) &&& 51 := by decide +kernel
theorem zr_k3 : ∀ a, a < 5 → ∀ r, r < 69 → (r + 16 * a + r / 16) &&& 15 = (r + r / 16) &&& 15 := by decide +kernel
theorem zr_k4 : ∀ r, r < 256 → zr_r1 r < 256 ∧ zr_r2 (zr_r1 r) < 69 ∧ zr_r2 (zr_r1 r) % 16 < 5 := by decide +kernel
theorem zr_k5 : ∀ r, r < 256 → zr_r3 (zr_r2 (zr_r1 r)) = zr_bs r.testBit 8 := by decide +kernel
theorem zr_s1_s (n q : Nat) {r : Nat} (hr : r < 256) : zr_s1 (n + 1) (256 * q + r) = 256 * zr_s1 n q + zr_r1 r := by
  unfold zr_s1 zr_r1
  have e : (256 * q + r) / 2 = 256 * (q / 2) + (128 * (q % 2) + r / 2) := by omega
  rw [e, zr_M_s, zr_and (by omega) (by omega), zr_k1 _ (by omega) r hr]
  have l1 : (q / 2) &&& zr_M 85 n ≤ q / 2 := Nat.and_le_left
  have l2 : (r / 2) &&& 85 ≤ r / 2 := Nat.and_le_left
  generalize (q / 2) &&& zr_M 85 n = p at l1 ⊢
  generalize (r / 2) &&& 85 = t at l2 ⊢
  omega
theorem zr_s2_s (n q : Nat) {r : Nat} (hr : r < 256) : zr_s2 (n + 1) (256 * q + r) = 256 * zr_s2 n q + zr_r2 r := by
  unfold zr_s2 zr_r2
  have e : (256 * q + r) / 4 = 256 * (q / 4) + (64 * (q % 4) + r / 4) := by omega
  rw [e, zr_M_s, zr_and (by omega) (by omega), zr_and (by omega) (by omega), zr_k2 _ (by omega) r hr]
  generalize (q / 4) &&& zr_M 51 n = p
  generalize q &&& zr_M 51 n = p'
  generalize (r / 4) &&& 51 = t
  generalize r &&& 51 = t'
  omega
theorem zr_s3_s (n q : Nat) {r : Nat} (hr : r < 69) (hq : q % 16 < 5) : zr_s3 (n + 1) (256 * q + r) = 256 * zr_s3 n q + zr_r3 r := by
  unfold zr_s3 zr_r3
  have e : (256 * q + r) + (256 * q + r) / 16 = 256 * (q + q / 16) + (r + 16 * (q % 16) + r / 16) := by omega
  rw [e, zr_M_s, zr_and (by omega) (by omega), zr_k3 _ hq r hr]
def zr_sw (n x : Nat) : Nat := zr_s3 n (zr_s2 n (zr_s1 n x))
theorem zr_low (n x : Nat) : zr_s2 n (zr_s1 n x) % 16 < 5 := by
  cases n with
  | zero =>
    have : zr_s2 0 (zr_s1 0 x) = 0 := by
      unfold zr_s2
      show (_ &&& 0) + (_ &&& 0) = 0
      rw [Nat.and_zero, Nat.and_zero]
    rw [this]; decide
  | succ n =>
    obtain ⟨q, r, hr, e⟩ : ∃ q r, r < 256 ∧ x = 256 * q + r := ⟨x / 256, x % 256, by omega, by omega⟩
    obtain ⟨a, b, c⟩ := zr_k4 r hr
    rw [e, zr_s1_s n q hr, zr_s2_s n _ a]
    omega
theorem zr_tb8 (q : Nat) {r : Nat} (hr : r < 256) : zr_bs (256 * q + r).testBit 8 = zr_bs r.testBit 8 := by
  apply zr_bs_congr
  intro j hj
  have h1 := Nat.testBit_mod_two_pow (256 * q + r) 8 j
  rw [show (2 : Nat) ^ 8 = 256 from rfl, show (256 * q + r) % 256 = r by omega, decide_eq_true hj, Bool.true_and] at h1
  exact h1.symm
theorem zr_tbk (q k : Nat) {r : Nat} (hr : r < 256) : zr_bs (256 * q + r).testBit (8 + k) = zr_bs r.testBit 8 + zr_bs q.testBit k := by
  rw [zr_bs_split, zr_tb8 q hr]
  congr 1
  apply zr_bs_congr
  intro j hj
  have h1 := Nat.testBit_div_two_pow (n := 8) (256 * q + r) j
  rw [show (2 : Nat) ^ 8 = 256 from rfl, show (256 * q + r) / 256 = q by omega] at h1
  exact h1.symm
theorem zr_sw_s (n x : Nat) : ∃ q p, q = x / 256 ∧ p ≤ 8 ∧ zr_sw (n + 1) x = 256 * zr_sw n q + p ∧ ∀ k, zr_bs x.testBit (8 + k) = p + zr_bs q.testBit k := by
  obtain ⟨q, r, hr, e⟩ : ∃ q r, r < 256 ∧ x = 256 * q + r := ⟨x / 256, x % 256, by omega, by omega⟩
  obtain ⟨a, b, c⟩ := zr_k4 r hr
  refine ⟨q, zr_bs r.testBit 8, by omega, zr_bs_le _ _, ?_, ?_⟩
  · unfold zr_sw
    rw [e, zr_s1_s n q hr, zr_s2_s n _ a, zr_s3_s n _ b (zr_low n q), zr_k5 r hr]
  · intro k
    rw [e]
    exact zr_tbk q k hr
theorem zr_mul {E Q c R : Nat} (h : E = 18446744073709551616 * Q + (72057594037927936 * c + R)) (hc : c < 256) (hR : R < 72057594037927936) : E % 18446744073709551616 / 72057594037927936 = c := by
  have h1 : E % 18446744073709551616 = 72057594037927936 * c + R := by
    rw [h, Nat.mul_add_mod]
    exact Nat.mod_eq_of_lt (by omega)
  rw [h1]
  omega
theorem zr_sum {p0 p1 p2 p3 p4 p5 p6 p7 : Nat} (h0 : p0 ≤ 8) (h1 : p1 ≤ 8) (h2 : p2 ≤ 8) (h3 : p3 ≤ 8) (h4 : p4 ≤ 8) (h5 : p5 ≤ 8) (h6 : p6 ≤ 8) (h7 : p7 ≤ 8) :
    (256 * (256 * (256 * (256 * (256 * (256 * (256 * p7 + p6) + p5) + p4) + p3) + p2) + p1) + p0) * 72340172838076673 % 18446744073709551616 / 72057594037927936 = p0 + (p1 + (p2 + (p3 + (p4 + (p5 + (p6 + p7)))))) := by
  apply zr_mul (Q := (p1 + p2 + p3 + p4 + p5 + p6 + p7) + 256 * (p2 + p3 + p4 + p5 + p6 + p7) + 65536 * (p3 + p4 + p5 + p6 + p7) + 16777216 * (p4 + p5 + p6 + p7) + 4294967296 * (p5 + p6 + p7) + 1099511627776 * (p6 + p7) + 281474976710656 * p7)
    (R := p0 + 256 * (p0 + p1) + 65536 * (p0 + p1 + p2) + 16777216 * (p0 + p1 + p2 + p3) + 4294967296 * (p0 + p1 + p2 + p3 + p4) + 1099511627776 * (p0 + p1 + p2 + p3 + p4 + p5) + 281474976710656 * (p0 + p1 + p2 + p3 + p4 + p5 + p6))
  · omega
  · omega
  · omega
theorem zr_pop {x : Nat} (hx : x < 18446744073709551616) : zr_sw 8 x * 72340172838076673 % 18446744073709551616 / 72057594037927936 = zr_bs x.testBit 64 ∧ zr_sw 8 x < 1157442765409226768 := by
  obtain ⟨x1, p0, e0, l0, s0, b0⟩ := zr_sw_s 7 x
  obtain ⟨x2, p1, e1, l1, s1, b1⟩ := zr_sw_s 6 x1
  obtain ⟨x3, p2, e2, l2, s2, b2⟩ := zr_sw_s 5 x2
  obtain ⟨x4, p3, e3, l3, s3, b3⟩ := zr_sw_s 4 x3
  obtain ⟨x5, p4, e4, l4, s4, b4⟩ := zr_sw_s 3 x4
  obtain ⟨x6, p5, e5, l5, s5, b5⟩ := zr_sw_s 2 x5
  obtain ⟨x7, p6, e6, l6, s6, b6⟩ := zr_sw_s 1 x6
  obtain ⟨x8, p7, e7, l7, s7, b7⟩ := zr_sw_s 0 x7
  have z : zr_sw 0 x8 = 0 := Nat.and_zero _
  rw [z] at s7
  have c0 : zr_bs x.testBit 64 = _ := b0 56
  have c1 : zr_bs x1.testBit 56 = _ := b1 48
  have c2 : zr_bs x2.testBit 48 = _ := b2 40
  have c3 : zr_bs x3.testBit 40 = _ := b3 32
  have c4 : zr_bs x4.testBit 32 = _ := b4 24
  have c5 : zr_bs x5.testBit 24 = _ := b5 16
  have c6 : zr_bs x6.testBit 16 = _ := b6 8
  have c7 : zr_bs x7.testBit 8 = p7 := b7 0
  have s0' : zr_sw 8 x = 256 * zr_sw 7 x1 + p0 := s0
  have s1' : zr_sw 7 x1 = 256 * zr_sw 6 x2 + p1 := s1
  have s2' : zr_sw 6 x2 = 256 * zr_sw 5 x3 + p2 := s2
  have s3' : zr_sw 5 x3 = 256 * zr_sw 4 x4 + p3 := s3
  have s4' : zr_sw 4 x4 = 256 * zr_sw 3 x5 + p4 := s4
  have s5' : zr_sw 3 x5 = 256 * zr_sw 2 x6 + p5 := s5
  have s6' : zr_sw 2 x6 = 256 * zr_sw 1 x7 + p6 := s6
  have s7' : zr_sw 1 x7 = p7 := s7.trans (Nat.zero_add p7)
  rw [c0, c1, c2, c3, c4, c5, c6, c7, s0', s1', s2', s3', s4', s5', s6', s7']
  exact ⟨zr_sum l0 l1 l2 l3 l4 l5 l6 l7, by omega⟩
end
section
/-! a long as a set of bits -/
def zr_bit (b : Int64) (j : Nat) : Bool := b.toBitVec.toNat.testBit j
theorem zr_bit_lN {n : Nat} (hn : n < 2 ^ 64) (j : Nat) : zr_bit (lN n) j = n.testBit j := by
  unfold zr_bit
  rw [wb_tn hn]
theorem zr_bit_D (b : Int64) (j : Nat) : zr_bit b j = b.toBitVec.getLsbD j := rfl
theorem zr_bit_or (a b : Int64) (j : Nat) : zr_bit (a ||| b) j = (zr_bit a j || zr_bit b j) := by
  rw [zr_bit_D, zr_bit_D, zr_bit_D, Int64.toBitVec_or, BitVec.getLsbD_or]
theorem zr_bit_and (a b : Int64) (j : Nat) : zr_bit (a &&& b) j = (zr_bit a j && zr_bit b j) := by
  rw [zr_bit_D, zr_bit_D, zr_bit_D, Int64.toBitVec_and, BitVec.getLsbD_and]
theorem zr_bit_sh (b : Int64) {k j : Nat} (hk : k < 64) (hj : j < 64) : zr_bit (b <<< ((nI k).toInt64 &&& 63)) j = (decide (k ≤ j) && zr_bit b (j - k)) := by
  have e : (b <<< ((nI k).toInt64 &&& 63)).toBitVec = b.toBitVec <<< k := by
    rw [wb_c k hk, Int64.toBitVec_shiftLeft, wb_tb, wb_sm k hk]
    apply BitVec.eq_of_toNat_eq
    rw [BitVec.shiftLeft_eq', BitVec.toNat_shiftLeft, BitVec.toNat_shiftLeft, BitVec.toNat_ofNat, Nat.mod_eq_of_lt (show k < 2 ^ 64 by omega)]
  rw [zr_bit_D, zr_bit_D, e, BitVec.getLsbD_shiftLeft]
  rcases Nat.lt_or_ge j k with h | h
  · simp [h, Nat.not_le.mpr h]
  · simp [hj, h, Nat.not_lt.mpr h]
theorem zr_bit_1 : ∀ j, j < 64 → zr_bit 1 j = decide (j = 0) := by decide +kernel
theorem zr_bit_0 : ∀ j, j < 64 → zr_bit 0 j = false := by decide +kernel
theorem zr_bit_m1 : ∀ j, j < 64 → zr_bit (-1) j = decide (j < 64) := by decide +kernel
theorem zr_bit_mask : ∀ W, W < 64 → ∀ j, j < 64 → zr_bit (((1 : Int64) <<< ((nI W).toInt64 &&& 63)) - 1) j = decide (j < W) := by decide +kernel
theorem zr_get (b : Int64) {j : Nat} (hj : j < 64) : (b.toUInt64 >>> ((nI j).toInt64.toUInt64 &&& Int64.toUInt64 63)).toInt64 &&& 1 = if zr_bit b j = true then 1 else 0 := by
  obtain ⟨n, hn, rfl⟩ := wb_of b
  rw [wb_bit hn hj, zr_bit_lN hn, Nat.testBit_eq_decide_div_mod_eq]
  by_cases h : n / 2 ^ j % 2 = 1
  · rw [if_pos (decide_eq_true h), h]; rfl
  · rw [if_neg (by rw [decide_eq_true_eq]; exact h), show n / 2 ^ j % 2 = 0 by omega]; rfl
theorem zr_get1 {b : Int64} {j : Nat} (hj : j < 64) (h : zr_bit b j = true) : (b.toUInt64 >>> ((nI j).toInt64.toUInt64 &&& Int64.toUInt64 63)).toInt64 &&& 1 = 1 := by
  rw [zr_get b hj, if_pos h]
theorem zr_get0 {b : Int64} {j : Nat} (hj : j < 64) (h : ¬ zr_bit b j = true) : (b.toUInt64 >>> ((nI j).toInt64.toUInt64 &&& Int64.toUInt64 63)).toInt64 &&& 1 = 0 := by
  rw [zr_get b hj, if_neg h]
/-! ones -/
theorem zr_o1 {x : Nat} (hx : x < 2 ^ 64) : lN x - ((((lN x).toUInt64 >>> ((1 : Int32).toInt64.toUInt64 &&& Int64.toUInt64 63)).toInt64) &&& 6148914691236517205) = lN (zr_s1 8 x) := by
  have a : ((lN x).toUInt64 >>> ((1 : Int32).toInt64.toUInt64 &&& Int64.toUInt64 63)).toInt64 = lN (x / 2) := wb_shr (k := 1) hx (by decide)
  have m : (6148914691236517205 : Int64) = lN (zr_M 85 8) := by decide
  rw [a, m, wb_and (by omega) (by decide)]
  have l : (x / 2) &&& zr_M 85 8 ≤ x / 2 := Nat.and_le_left
  rw [lN_sub (by omega)]
  rfl
theorem zr_o2 {y : Nat} (hy : y < 2 ^ 64) : (lN y &&& 3689348814741910323) + ((((lN y).toUInt64 >>> ((2 : Int32).toInt64.toUInt64 &&& Int64.toUInt64 63)).toInt64) &&& 3689348814741910323) = lN (zr_s2 8 y) := by
  have a : ((lN y).toUInt64 >>> ((2 : Int32).toInt64.toUInt64 &&& Int64.toUInt64 63)).toInt64 = lN (y / 4) := wb_shr (k := 2) hy (by decide)
  have m : (3689348814741910323 : Int64) = lN (zr_M 51 8) := by decide
  rw [a, m, wb_and hy (by decide), wb_and (by omega) (by decide), lN_add]
  rfl
theorem zr_o3 {z : Nat} (hz : z + z / 16 < 2 ^ 64) : (lN z + (((lN z).toUInt64 >>> ((4 : Int32).toInt64.toUInt64 &&& Int64.toUInt64 63)).toInt64)) &&& 1085102592571150095 = lN (zr_s3 8 z) := by
  have a : ((lN z).toUInt64 >>> ((4 : Int32).toInt64.toUInt64 &&& Int64.toUInt64 63)).toInt64 = lN (z / 16) := wb_shr (k := 4) (by omega) (by decide)
  have m : (1085102592571150095 : Int64) = lN (zr_M 15 8) := by decide
  rw [a, m, lN_add, wb_and hz (by decide)]
  rfl
theorem zr_o4 (w : Nat) : (((lN w * 72340172838076673).toUInt64 >>> ((56 : Int32).toInt64.toUInt64 &&& Int64.toUInt64 63)).toInt64).toInt32 = nI (w * 72340172838076673 % 18446744073709551616 / 72057594037927936) := by
  have m : (72340172838076673 : Int64) = lN 72340172838076673 := by decide
  have b : w * 72340172838076673 % 2 ^ 64 < 2 ^ 64 := Nat.mod_lt _ (by decide)
  rw [m, lN_mul, wb_mod]
  have a : ((lN (w * 72340172838076673 % 2 ^ 64)).toUInt64 >>> ((56 : Int32).toInt64.toUInt64 &&& Int64.toUInt64 63)).toInt64 = lN (w * 72340172838076673 % 2 ^ 64 / 2 ^ 56) := wb_shr (k := 56) b (by decide)
  rw [a, lN_i]
theorem zr_s2_lt (y : Nat) : zr_s2 8 y + zr_s2 8 y / 16 < 2 ^ 64 := by
  have l1 : y &&& zr_M 51 8 ≤ zr_M 51 8 := Nat.and_le_right
  have l2 : (y / 4) &&& zr_M 51 8 ≤ zr_M 51 8 := Nat.and_le_right
  have m : zr_M 51 8 = 3689348814741910323 := by decide
  unfold zr_s2
  rw [m] at l1 l2 ⊢
  generalize y &&& 3689348814741910323 = p at l1 ⊢
  generalize (y / 4) &&& 3689348814741910323 = q at l2 ⊢
  omega
theorem zr_ones {post : Int32 → Prop} {b : Int64} (hp : post (nI (zr_bs (zr_bit b) 64))) : wpX_ones post b := by
  obtain ⟨x, hx, rfl⟩ := wb_of b
  have h1 : zr_s1 8 x < 2 ^ 64 := Nat.lt_of_le_of_lt (Nat.sub_le _ _) hx
  have h2 := zr_s2_lt (zr_s1 8 x)
  have h3 := (zr_pop (x := x) hx).1
  have h4 : zr_bs (zr_bit (lN x)) 64 = zr_bs x.testBit 64 := zr_bs_congr 64 (fun j _ => zr_bit_lN hx j)
  rw [h4, ← h3] at hp
  unfold wpX_ones
  refine nm_r (zr_o1 hx) (nm_r (zr_o2 h1) (nm_r (zr_o3 h2) ?_))
  rw [zr_o4]
  exact hp
end
section
/-! small numbers -/
theorem zr_i60 (l i : Nat) : (60 : Int32) * nI l + nI i = nI (60 * l + i) := by
  show nI 60 * nI l + nI i = _
  rw [pk_mul, nI_add]
theorem zr_i6 (l i : Nat) : (6 : Int32) * nI l + nI i = nI (6 * l + i) := by
  show nI 6 * nI l + nI i = _
  rw [pk_mul, nI_add]
theorem zr_i8 (l i : Nat) : (8 : Int32) * nI l + nI i = nI (8 * l + i) := by
  show nI 8 * nI l + nI i = _
  rw [pk_mul, nI_add]
theorem zr_cl {l : Nat} (hl : l < 4) : (nI l).toNatClampNeg = l := nI_clamp (by omega)
theorem zr_c60 {l i : Nat} (hl : l < 4) (hi : i < 60) : ((60 : Int32) * nI l + nI i).toNatClampNeg = 60 * l + i := by
  rw [zr_i60]; exact nI_clamp (by omega)
theorem zr_in4 {l : Nat} (hl : l < 4) : vp_in (nI l) 4 := vp_in_nI hl (by decide)
theorem zr_in60 {l i : Nat} (hl : l < 4) (hi : i < 60) : vp_in ((60 : Int32) * nI l + nI i) 240 := by
  rw [zr_i60]; exact vp_in_nI (by omega) (by decide)
theorem zr_sub_eq {a d T : Nat} (ha : a < 2 ^ 30) (hd : d < 2 ^ 30) (hT : T < 2 ^ 30) : nI a = nI T - nI d ↔ a + d = T := by
  rw [← Int32.toInt_inj, pk_sub_toInt hT hd, nI_toInt (by omega)]
  omega
theorem zr_s256 (n : Nat) : nI (n + 256) - 256 = nI n := by
  rw [← nI_add]
  exact Int32.add_sub_cancel _ _
theorem zr_lo8 {M : Nat} (hM : M < 2 ^ 31) : (nI M - 256) &&& 255 = nI (M % 256) := by
  rw [pk_and _ 8 (by decide)]
  have e : (nI M - 256).toBitVec.toNat = (2 ^ 32 - 256 + M) % 2 ^ 32 := by
    rw [Int32.toBitVec_sub, BitVec.toNat_sub, pk_tn (by omega)]
    rfl
  rw [e]
  exact congrArg nI (by omega)
/-! the reference's side of a line -/
def zr_Y (m : Nat) (g : Nat → Nat) (l : Nat) (nu mn : Nat → Int32) : Prop :=
  m ≤ 60 ∧ mn l = nI m ∧ (∀ i, i < m → nu (60 * l + i) = nI (g i)) ∧ (∀ i, i < m → 1 ≤ g i) ∧ zr_mx g m ≤ 256 * m
section
variable {fw : Int32} {nu mn so ha ve : Nat → Int32} {m l : Nat} {g : Nat → Nat}
theorem zr_Ym (hl : l < 4) (H : zr_Y m g l nu mn) : mn (nI l).toNatClampNeg = nI m := by rw [zr_cl hl]; exact H.2.1
theorem zr_Yn (hl : l < 4) (H : zr_Y m g l nu mn) {i : Nat} (hi : i < m) : nu ((60 : Int32) * nI l + nI i).toNatClampNeg = nI (g i) := by
  rw [zr_c60 hl (by have := H.1; omega)]; exact H.2.2.1 i hi
theorem zr_Yle (H : zr_Y m g l nu mn) {i : Nat} (hi : i < m) : g i ≤ 15360 := by
  have a := zr_mx_ge g m i hi
  have b := H.2.2.2.2
  have c := H.1
  omega
theorem zr_YT (H : zr_Y m g l nu mn) : zr_mx g m ≤ 15360 := by
  have b := H.2.2.2.2
  have c := H.1
  omega
theorem zr_mx_le (g : Nat → Nat) {m : Nat} {B : Nat} (h : ∀ i, i < m → g i ≤ B) : ∀ i, i ≤ m → zr_mx g i ≤ B := by
  intro i
  induction i with
  | zero => intro _; exact Nat.zero_le _
  | succ i ih =>
    intro hi
    rw [zr_mx_s]
    have a := ih (by omega)
    have b := h i (by omega)
    by_cases c : g i ≤ zr_mx g i
    · rw [if_pos c]; exact a
    · rw [if_neg c]; exact b
theorem zr_great_l {post : Int32 → Prop} (hl : l < 4) (H : zr_Y m g l nu mn) (hp : post (nI (zr_mx g m))) :
    ∀ d i, i + d = m → wY_greatest_4 post (nI l) fw nu mn so ha ve (d + 1) (nI (zr_mx g i)) (nI i) := by
  have hm := H.1
  intro d
  induction d with
  | zero =>
    intro i hi
    have e : i = m := by omega
    subst e
    exact And.intro (zr_in4 hl) (pk_le i i (fun _ => hp) (fun z => absurd z (Nat.lt_irrefl _)) (zr_Ym hl H) rfl)
  | succ d ih =>
    intro i hi
    have him : i < m := by omega
    have ln := zr_Yle H him
    have lx : zr_mx g i ≤ 15360 := zr_mx_le g (fun i hi => zr_Yle H hi) i (by omega)
    have hi2 := zr_in60 hl (show i < 60 by omega)
    refine And.intro (zr_in4 hl) (pk_le m i (fun z => absurd z (by omega)) (fun _ => pk_le 60 i (fun z => absurd z (by omega)) (fun _ => And.intro hi2 (pk_le (g i) (zr_mx g i) (fun z => ?_) (fun z => And.intro hi2 ?_) (zr_Yn hl H him)))) (zr_Ym hl H))
    · refine nm_r (nI_1 i) ?_
      have k := ih (i + 1) (by omega)
      rw [zr_mx_s, if_pos z] at k
      exact k
    · refine nm_r (zr_Yn hl H him) (nm_r (nI_1 i) ?_)
      have k := ih (i + 1) (by omega)
      rw [zr_mx_s, if_neg (by omega)] at k
      exact k
theorem zr_great {post : Int32 → Prop} (hl : l < 4) (H : zr_Y m g l nu mn) (hp : post (nI (zr_mx g m))) :
    wpY_greatest post (fw, nu, mn, so, ha, ve) (nI l) := Exists.intro (m + 1) (zr_great_l hl H hp m 0 (by omega))
theorem zr_holds_l {post : Int32 → Prop} {n : Int32} (hl : l < 4) (H : zr_Y m g l nu mn) (h1 : (∃ i, i < m ∧ nI (g i) = n) → post 1) (h0 : (¬ ∃ i, i < m ∧ nI (g i) = n) → post 0) :
    ∀ d i, i + d = m → (∀ j, j < i → ¬ nI (g j) = n) → wY_holds_2 post (nI l) n fw nu mn so ha ve (d + 1) (nI i) := by
  have hm := H.1
  intro d
  induction d with
  | zero =>
    intro i hi hj
    have e : i = m := by omega
    subst e
    exact And.intro (zr_in4 hl) (pk_le i i (fun _ => h0 (fun ⟨j, a, b⟩ => hj j a b)) (fun z => absurd z (Nat.lt_irrefl _)) (zr_Ym hl H) rfl)
  | succ d ih =>
    intro i hi hj
    have him : i < m := by omega
    have hi2 := zr_in60 hl (show i < 60 by omega)
    refine And.intro (zr_in4 hl) (pk_le m i (fun z => absurd z (by omega)) (fun _ => pk_le 60 i (fun z => absurd z (by omega)) (fun _ => And.intro hi2 (br_c (fun z => ?_) (fun z => ?_)))) (zr_Ym hl H))
    · rw [zr_Yn hl H him] at z
      exact h1 ⟨i, him, z⟩
    · rw [zr_Yn hl H him] at z
      refine nm_r (nI_1 i) (ih (i + 1) (by omega) (fun j hji => ?_))
      by_cases e : j = i
      · subst e; exact z
      · exact hj j (by omega)
theorem zr_holds {post : Int32 → Prop} {n : Int32} (hl : l < 4) (H : zr_Y m g l nu mn) (h1 : (∃ i, i < m ∧ nI (g i) = n) → post 1) (h0 : (¬ ∃ i, i < m ∧ nI (g i) = n) → post 0) :
    wpY_holds post (fw, nu, mn, so, ha, ve) (nI l) n := Exists.intro (m + 1) (zr_holds_l hl H h1 h0 m 0 (by omega) (fun j hj => absurd hj (Nat.not_lt_zero j)))
theorem zr_holdsN {post : Int32 → Prop} {n : Nat} (hn : n < 2 ^ 31) (hl : l < 4) (H : zr_Y m g l nu mn) (h1 : (∃ i, i < m ∧ g i = n) → post 1) (h0 : (¬ ∃ i, i < m ∧ g i = n) → post 0) :
    wpY_holds post (fw, nu, mn, so, ha, ve) (nI l) (nI n) :=
  zr_holds hl H (fun ⟨i, a, b⟩ => h1 ⟨i, a, (nI_eq (by have := zr_Yle H a; omega) hn).mp b⟩) (fun z => h0 (fun ⟨i, a, b⟩ => z ⟨i, a, congrArg nI b⟩))
theorem zr_holdsD {post : Int32 → Prop} {d T : Nat} (hd : d < 2 ^ 30) (hT : T < 2 ^ 30) (hl : l < 4) (H : zr_Y m g l nu mn) (h1 : (∃ i, i < m ∧ g i + d = T) → post 1) (h0 : (¬ ∃ i, i < m ∧ g i + d = T) → post 0) :
    wpY_holds post (fw, nu, mn, so, ha, ve) (nI l) (nI T - nI d) :=
  zr_holds hl H (fun ⟨i, a, b⟩ => h1 ⟨i, a, (zr_sub_eq (by have := zr_Yle H a; omega) hd hT).mp b⟩) (fun z => h0 (fun ⟨i, a, b⟩ => z ⟨i, a, (zr_sub_eq (by have := zr_Yle H a; omega) hd hT).mpr b⟩))
theorem zr_F {T W : Nat} (hW : W ≤ 64) : nI T - nI W + 1 = nI (T + 257 - W) - 256 := by
  rw [← pk_sub (show W ≤ T + 257 by omega), ← nI_add]
  show nI T - nI W + 1 = nI T + 257 - nI W - 256
  grind
theorem zr_taken_l {post : Int32 → Prop} {B K low : Nat} (hB : B < 2 ^ 30) (hK : K < 256) (hlow : (B + K) % 256 = low) (hp : post (nI (B + K) - 256)) :
    ∀ d k, k + d = K → wY_taken_16 post (nI low) (nI B - 256) fw nu mn so ha ve (d + 1) (nI k) := by
  have e : ∀ k : Nat, nI B - 256 + nI k = nI (B + k) - 256 := by
    intro k
    rw [← nI_add]
    grind
  intro d
  induction d with
  | zero =>
    intro k hk
    have ek : k = K := by omega
    subst ek
    refine pk_le 256 k (fun z => absurd z (by omega)) (fun _ => br_t ?_ ?_)
    · rw [e, zr_lo8 (by omega), hlow]
    · rw [e]; exact hp
  | succ d ih =>
    intro k hk
    refine pk_le 256 k (fun z => absurd z (by omega)) (fun _ => br_f ?_ (nm_r (nI_1 k) (ih (k + 1) (by omega))))
    rw [e, zr_lo8 (by omega), nI_eq (by omega) (by omega)]
    omega
theorem zr_taken {post : Int32 → Prop} {W low N : Nat} (hW : W ≤ 64) (hl : l < 4) (H : zr_Y m g l nu mn) (h1 : N % 256 = low) (h2 : zr_mx g m + 257 ≤ N + W) (h3 : N + W < zr_mx g m + 513)
    (hp : post (nI N - 256)) : wpY_taken post (nI W, nu, mn, so, ha, ve) (nI l) (nI low) := by
  have hT := zr_YT H
  dsimp only [wpY_taken]
  refine zr_great hl H (nm_r (zr_F hW) ?_)
  have eN : N = (zr_mx g m + 257 - W) + (N - (zr_mx g m + 257 - W)) := by omega
  refine ⟨_, zr_taken_l (B := zr_mx g m + 257 - W) (K := N - (zr_mx g m + 257 - W)) (by omega) (by omega) (by rw [← eN]; exact h1) (by rw [← eN]; exact hp) (N - (zr_mx g m + 257 - W)) 0 (by omega)⟩
end
end
section
/-! the component's side of a line: top and window, list -/
def zr_T (W m : Nat) (g : Nat → Nat) (l : Nat) (th tl : Nat → Int32) (bi : Nat → Int64) : Prop :=
  th l = nI (zr_mx g m / 256) ∧ tl l = nI (zr_mx g m % 256) ∧ ∀ j, j < 64 → (zr_bit (bi l) j = true ↔ j < W ∧ ∃ i, i < m ∧ g i + j = zr_mx g m)
def zr_L (m : Nat) (g h : Nat → Nat) (l : Nat) (ps li : Nat → Int32) : Prop :=
  ps l = nI m ∧ (∀ i, i < m → li (60 * l + i) = nI (h i)) ∧ ∀ i, i < m → ∀ t, h i < t ↔ i < zr_cnt g m t
theorem zr_i256 (l i : Nat) : (256 : Int32) * nI l + nI i = nI (256 * l + i) := by
  show nI 256 * nI l + nI i = _
  rw [pk_mul, nI_add]
section
variable {fw : Int32} {fm : Int64} {th tl : Nat → Int32} {bi : Nat → Int64} {ps li so ha ve : Nat → Int32} {W m l : Nat} {g h : Nat → Nat}
theorem zr_topOf {post : Int32 → Prop} (hl : l < 4) (hT : zr_T W m g l th tl bi) (hp : post (nI (zr_mx g m))) :
    wpX_topOf post (fw, fm, th, tl, bi, ps, li, so, ha, ve) (nI l) := by
  have e : (256 : Int32) * th (nI l).toNatClampNeg + tl (nI l).toNatClampNeg = nI (zr_mx g m) := by
    rw [zr_cl hl, hT.1, hT.2.1, zr_i256, Nat.div_add_mod]
  refine And.intro (zr_in4 hl) (And.intro (zr_in4 hl) ?_)
  rw [← e] at hp
  exact hp
theorem zr_infer {post : Int32 → Prop} {low N : Nat} (hW : W ≤ 64) (hlow : low < 256) (hl : l < 4) (hT : zr_T W m g l th tl bi) (hB : zr_mx g m ≤ 15360)
    (h1 : N % 256 = low) (h2 : zr_mx g m + 257 ≤ N + W) (h3 : N + W < zr_mx g m + 513) (hp : post (nI N - 256)) :
    wpX_infer post (nI W, fm, th, tl, bi, ps, li, so, ha, ve) (nI l) (nI low) := by
  obtain ⟨t1, t2, _⟩ := hT
  dsimp only [wpX_infer]
  rw [zr_cl hl, t1, t2]
  obtain ⟨q, a, ha', eT⟩ : ∃ q a, a < 256 ∧ zr_mx g m = 256 * q + a := ⟨zr_mx g m / 256, zr_mx g m % 256, by omega, by omega⟩
  rw [show zr_mx g m / 256 = q by omega, show zr_mx g m % 256 = a by omega]
  refine And.intro (zr_in4 hl) (nm_r (zr_F hW) (And.intro (zr_in4 hl) (nm_e ?_)))
  have hs : (nI (a + 257 - W) - 256).toInt = ((a + 257 - W : Nat) : Int) - ((256 : Nat) : Int) := pk_sub_toInt (b := 256) (by omega) (by omega)
  have z0 : (0 : Int32).toInt = 0 := by decide
  by_cases c : a + 1 < W
  · have e2 : nI (a + 257 - W) - 256 + 256 = nI (a + 257 - W) := Int32.sub_add_cancel _ _
    refine br_t (by rw [Int32.lt_iff_toInt_lt, hs, z0]; omega) ?_
    rw [e2]
    refine pk_lt low (a + 257 - W) (fun z => ?_) (fun z => nm_e ?_)
    · rw [show N = (256 * q + low) + 256 by omega, zr_s256] at hp
      rw [zr_i256]
      exact hp
    · rw [show N = 256 * q + low by omega, ← zr_i256] at hp
      have e3 : (256 : Int32) * (nI q - 1) + nI low = 256 * nI q + nI low - 256 := by grind
      rw [e3]
      exact hp
  · have e2 : nI (a + 257 - W) - 256 = nI (a + 1 - W) := by rw [show a + 257 - W = (a + 1 - W) + 256 by omega, zr_s256]
    refine br_f (by rw [Int32.lt_iff_toInt_lt, hs, z0]; omega) ?_
    rw [e2]
    refine pk_lt low (a + 1 - W) (fun z => ?_) (fun z => ?_)
    · show post (256 * (nI q + 1) + nI low)
      rw [show N = (256 * (q + 1) + low) + 256 by omega, zr_s256] at hp
      rw [nI_1, zr_i256]
      exact hp
    · show post (256 * nI q + nI low)
      rw [show N = (256 * q + low) + 256 by omega, zr_s256] at hp
      rw [zr_i256]
      exact hp
theorem zr_isSeen {post : Int32 → Prop} {s : Nat} (hs : s < 2 ^ 30) (hW : W ≤ 64) (hl : l < 4) (hT : zr_T W m g l th tl bi) (hB : zr_mx g m ≤ 15360) (hw : zr_mx g m + 1 ≤ s + W)
    (h1 : (∃ i, i < m ∧ g i = s) → post 1) (h0 : (¬ ∃ i, i < m ∧ g i = s) → post 0) : wpX_isSeen post (fw, fm, th, tl, bi, ps, li, so, ha, ve) (nI l) (nI s) := by
  dsimp only [wpX_isSeen]
  refine zr_topOf hl hT (nm_e ?_)
  by_cases c : zr_mx g m < s
  · refine br_t (pk_sneg hs c) (h0 ?_)
    rintro ⟨i, a, b⟩
    have := zr_mx_ge g m i a
    omega
  · rw [pk_sub (show s ≤ zr_mx g m by omega)]
    refine br_f (nI_pos (by omega)) (And.intro (zr_in4 hl) ?_)
    rw [zr_cl hl]
    have hb := hT.2.2 (zr_mx g m - s) (by omega)
    by_cases d : zr_bit (bi l) (zr_mx g m - s) = true
    · refine br_t (zr_get1 (by omega) d) (h1 ?_)
      obtain ⟨_, i, a, b⟩ := hb.mp d
      exact ⟨i, a, by omega⟩
    · refine br_f (by rw [zr_get0 (by omega) d]; decide) (h0 ?_)
      rintro ⟨i, a, b⟩
      exact d (hb.mpr ⟨by omega, i, a, by omega⟩)
theorem zr_Li (hl : l < 4) (hm : m ≤ 60) (hL : zr_L m g h l ps li) {i : Nat} (hi : i < m) : li ((60 : Int32) * nI l + nI i).toNatClampNeg = nI (h i) := by
  rw [zr_c60 hl (by omega)]; exact hL.2.1 i hi
theorem zr_Lp (hl : l < 4) (hL : zr_L m g h l ps li) : ps (nI l).toNatClampNeg = nI m := by
  rw [zr_cl hl]; exact hL.1
theorem zr_place_l {post : Int32 → Prop} {n : Nat} (hn : n < 2 ^ 31) (hl : l < 4) (hm : m ≤ 60) (hL : zr_L m g h l ps li) (hB : zr_mx g m ≤ 15360) (hp : post (nI (zr_cnt g m n))) :
    ∀ d a b k, k + d = 8 → a ≤ zr_cnt g m n → zr_cnt g m n ≤ b → b ≤ m → b - a < 2 ^ d → wX_place_13 post (nI l) (nI n) fw fm th tl bi ps li so ha ve (d + 1) (nI a) (nI b) (nI k) := by
  intro d
  induction d with
  | zero =>
    intro a b k hk h1 h2 h3 h4
    have e : a = zr_cnt g m n := by rw [Nat.pow_zero] at h4; omega
    subst e
    exact pk_le 8 k (fun _ => hp) (fun z => absurd z (by omega))
  | succ d ih =>
    intro a b k hk h1 h2 h3 h4
    refine pk_le 8 k (fun z => absurd z (by omega)) (fun _ => pk_le b a (fun z => ?_) (fun z => ?_))
    · have e : a = zr_cnt g m n := by omega
      subst e
      exact hp
    · obtain ⟨q, eq⟩ : ∃ q, (a + b) / 2 = q := ⟨_, rfl⟩
      have hq : q < m := by omega
      have hh := zr_hle hL.2.2 q hq
      have hc := hL.2.2 q hq n
      have em : (nI a + nI b) >>> ((1 : Int32) &&& 31) = nI q := by
        rw [nI_add, ← eq]
        exact pk_shrN (by omega) _ 1 (by decide)
      rw [Nat.pow_succ] at h4
      refine nm_r em (And.intro (zr_in60 hl (by omega)) (pk_le n (h q) (fun y => nm_r (nI_1 k) (ih a q (k + 1) (by omega) h1 (by omega) (by omega) ?_)) (fun y => nm_r (nI_1 q) (nm_r (nI_1 k) (ih (q + 1) b (k + 1) (by omega) (by omega) h2 h3 ?_))) rfl (zr_Li hl hm hL hq)))
      · generalize 2 ^ d = p at h4 ⊢
        omega
      · generalize 2 ^ d = p at h4 ⊢
        omega
theorem zr_place {post : Int32 → Prop} {n : Nat} (hn : n < 2 ^ 31) (hl : l < 4) (hm : m ≤ 60) (hL : zr_L m g h l ps li) (hB : zr_mx g m ≤ 15360) (hp : post (nI (zr_cnt g m n))) :
    wpX_place post (fw, fm, th, tl, bi, ps, li, so, ha, ve) (nI l) (nI n) := by
  dsimp only [wpX_place]
  refine And.intro (zr_in4 hl) (nm_r (zr_Lp hl hL) (Exists.intro 9 ?_))
  exact zr_place_l hn hl hm hL hB hp 8 0 m 0 (by omega) (Nat.zero_le _) (zr_cnt_le g n m) (Nat.le_refl _) (by omega)
theorem zr_acc_l (s c : Nat) (hl : l < 4) (hm : m < 60) : ∀ d j (li1 : Nat → Int32), c + d = j → j ≤ m → (∀ i, i < j → li1 (60 * l + i) = nI (h i)) → (∀ i, j < i → i ≤ m → li1 (60 * l + i) = nI (h (i - 1))) →
    (∀ q, q < 60 * l ∨ 60 * l + 60 ≤ q → li1 q = li q) →
    ∃ li' : Nat → Int32, (∀ q, q < 60 * l ∨ 60 * l + 60 ≤ q → li' q = li q) ∧ (∀ i, i < m + 1 → li' (60 * l + i) = nI (zr_ins h c s i)) ∧
      ∀ post : SX → Prop, post (fw, fm, th, tl, bi, upd ps l (ps l + 1), li', so, ha, ve) → wX_accept_100 post (nI l) (nI s) (nI c) fw fm (d + 1) (nI j) th tl bi ps li1 so ha ve := by
  intro d
  induction d with
  | zero =>
    intro j li1 hj hjm f1 f2 f3
    have e : j = c := by omega
    subst e
    refine ⟨upd li1 (60 * l + j) (nI s), ?_, ?_, ?_⟩
    · intro q hq
      rw [pk_un (by omega)]
      exact f3 q hq
    · intro i hi
      unfold zr_ins
      by_cases a : i < j
      · rw [if_pos a, pk_un (by omega)]
        exact f1 i a
      · rw [if_neg a]
        by_cases b : i = j
        · rw [if_pos b, b, pk_us]
        · rw [if_neg b, pk_un (by omega)]
          exact f2 i (by omega) (by omega)
    · intro post hp
      have e1 : upd li1 ((60 : Int32) * nI l + nI j).toNatClampNeg (nI s) = upd li1 (60 * l + j) (nI s) := by rw [zr_c60 hl (by omega)]
      have e2 : upd ps (nI l).toNatClampNeg (ps (nI l).toNatClampNeg + 1) = upd ps l (ps l + 1) := by rw [zr_cl hl]
      exact pk_le j j (fun _ => And.intro (zr_in60 hl (by omega)) (nm_r e1 (And.intro (zr_in4 hl) (And.intro (zr_in4 hl) (nm_r e2 hp))))) (fun z => absurd z (Nat.lt_irrefl _))
  | succ d ih =>
    intro j li1 hj hjm f1 f2 f3
    obtain ⟨j', rfl⟩ : ∃ j', j = j' + 1 := ⟨j - 1, by omega⟩
    obtain ⟨li', g1, g2, g3⟩ := ih j' (upd li1 (60 * l + (j' + 1)) (li1 (60 * l + j'))) (by omega) (by omega)
      (fun i hi => by rw [pk_un (by omega)]; exact f1 i (by omega))
      (fun i h1 h2 => by
        by_cases b : i = j' + 1
        · rw [b, pk_us]
          exact f1 j' (by omega)
        · rw [pk_un (by omega)]
          exact f2 i (by omega) h2)
      (fun q hq => by rw [pk_un (by omega)]; exact f3 q hq)
    refine ⟨li', g1, g2, fun post hp => ?_⟩
    have e0 : (60 : Int32) * nI l + nI (j' + 1) - 1 = nI (60 * l + j') := by
      rw [zr_i60]
      exact nI_pred (60 * l + j')
    have i0 : vp_in ((60 : Int32) * nI l + nI (j' + 1) - 1) 240 := by
      rw [e0]
      exact vp_in_nI (by omega) (by decide)
    have e1 : upd li1 ((60 : Int32) * nI l + nI (j' + 1)).toNatClampNeg (li1 ((60 : Int32) * nI l + nI (j' + 1) - 1).toNatClampNeg) = upd li1 (60 * l + (j' + 1)) (li1 (60 * l + j')) := by
      rw [zr_c60 hl (by omega), e0, nI_clamp (by omega)]
    exact pk_le (j' + 1) c (fun z => absurd z (by omega)) (fun _ => And.intro i0 (And.intro (zr_in60 hl (by omega)) (nm_r e1 (nm_r (pk_m1 j') (g3 post hp)))))
theorem zr_acc84 {s : Nat} (hs : s < 2 ^ 31) (hl : l < 4) (hm : m < 60) (hL : zr_L m g h l ps li) (hB : zr_mx g m ≤ 15360) :
    ∃ (h' : Nat → Nat) (li' : Nat → Int32), (∀ q, q < 60 * l ∨ 60 * l + 60 ≤ q → li' q = li q) ∧ zr_L (m + 1) (zr_ext g m s) h' l (upd ps l (ps l + 1)) li' ∧
      ∀ post : SX → Prop, post (fw, fm, th, tl, bi, upd ps l (ps l + 1), li', so, ha, ve) → wX_accept_84 post (nI l) (nI s) fw fm th tl bi ps li so ha ve := by
  have cl := zr_cnt_le g s m
  obtain ⟨li', g1, g2, g3⟩ := zr_acc_l (fw := fw) (fm := fm) (th := th) (tl := tl) (bi := bi) (ps := ps) (li := li) (so := so) (ha := ha) (ve := ve) (h := h) s (zr_cnt g m s) hl hm (m - zr_cnt g m s) m li (by omega) (Nat.le_refl _) hL.2.1 (fun i h1 h2 => absurd h1 (by omega)) (fun q _ => rfl)
  refine ⟨zr_ins h (zr_cnt g m s) s, li', g1, ⟨?_, g2, zr_ins_ok s hL.2.2⟩, fun post hp => ?_⟩
  · rw [pk_us, hL.1, nI_1]
  · unfold wX_accept_84
    exact zr_place hs hl (by omega) hL hB (And.intro (zr_in4 hl) (nm_r (zr_Lp hl hL) (Exists.intro _ (g3 post hp))))
/-! the window of bits under an accepted number -/
theorem zr_bits_back {b : Int64} {s : Nat} (hW : W ≤ 64) (hb : ∀ j, j < 64 → (zr_bit b j = true ↔ j < W ∧ ∃ i, i < m ∧ g i + j = zr_mx g m)) (h1 : s ≤ zr_mx g m) (h2 : zr_mx g m + 1 ≤ s + W) :
    ∀ j, j < 64 → (zr_bit (b ||| ((1 : Int64) <<< ((nI (zr_mx g m - s)).toInt64 &&& 63))) j = true ↔ j < W ∧ ∃ i, i < m + 1 ∧ zr_ext g m s i + j = zr_mx g m) := by
  intro j hj
  rw [zr_bit_or, zr_bit_sh _ (by omega) hj, zr_bit_1 _ (by omega), Bool.or_eq_true, Bool.and_eq_true, decide_eq_true_eq, decide_eq_true_eq, hb j hj]
  constructor
  · rintro (⟨a, i, c, d⟩ | ⟨a, c⟩)
    · exact ⟨a, i, by omega, by rw [zr_ext_n g s c]; exact d⟩
    · exact ⟨by omega, m, by omega, by rw [zr_ext_m]; omega⟩
  · rintro ⟨a, i, c, d⟩
    by_cases e : i = m
    · rw [e, zr_ext_m] at d
      exact Or.inr ⟨by omega, by omega⟩
    · rw [zr_ext_n g s (by omega)] at d
      exact Or.inl ⟨a, i, by omega, d⟩
theorem zr_bits_ahead {b : Int64} {s : Nat} (hb : ∀ j, j < 64 → (zr_bit b j = true ↔ j < W ∧ ∃ i, i < m ∧ g i + j = zr_mx g m)) (hm : ∀ j, j < 64 → zr_bit fm j = decide (j < W)) (h1 : zr_mx g m < s) (h2 : s - zr_mx g m < 64) :
    ∀ j, j < 64 → (zr_bit (((b <<< ((nI (s - zr_mx g m)).toInt64 &&& 63)) ||| 1) &&& fm) j = true ↔ j < W ∧ ∃ i, i < m + 1 ∧ zr_ext g m s i + j = s) := by
  intro j hj
  have hb' := hb (j - (s - zr_mx g m)) (by omega)
  rw [zr_bit_and, zr_bit_or, zr_bit_sh _ h2 hj, zr_bit_1 _ hj, hm j hj, Bool.and_eq_true, Bool.or_eq_true, Bool.and_eq_true, decide_eq_true_eq, decide_eq_true_eq, decide_eq_true_eq, hb']
  clear hb' hb
  constructor
  · rintro ⟨⟨a, b, i, c, d⟩ | a, w⟩
    · exact ⟨w, i, by omega, by rw [zr_ext_n g s c]; omega⟩
    · exact ⟨w, m, by omega, by rw [zr_ext_m]; omega⟩
  · rintro ⟨a, i, c, d⟩
    by_cases e : i = m
    · rw [e, zr_ext_m] at d
      exact ⟨Or.inr (by omega), a⟩
    · rw [zr_ext_n g s (by omega)] at d
      have := zr_mx_ge g m i (by omega)
      exact ⟨Or.inl ⟨by omega, by omega, i, by omega, by omega⟩, a⟩
theorem zr_bits_far {s : Nat} (hW : 4 ≤ W) (h2 : 64 ≤ s - zr_mx g m) :
    ∀ j, j < 64 → (zr_bit 1 j = true ↔ j < W ∧ ∃ i, i < m + 1 ∧ zr_ext g m s i + j = s) := by
  intro j hj
  rw [zr_bit_1 _ hj, decide_eq_true_eq]
  constructor
  · intro a
    exact ⟨by omega, m, by omega, by rw [zr_ext_m]; omega⟩
  · rintro ⟨a, i, c, d⟩
    by_cases e : i = m
    · rw [e, zr_ext_m] at d
      omega
    · rw [zr_ext_n g s (by omega)] at d
      have := zr_mx_ge g m i (by omega)
      omega
theorem zr_acc42 {s : Nat} {z : Int64} (hs : s < 2 ^ 31) (hl : l < 4) (hm : m < 60) (hL : zr_L m g h l ps li) (hB : zr_mx g m ≤ 15360) :
    ∃ (h' : Nat → Nat) (li' : Nat → Int32), (∀ q, q < 60 * l ∨ 60 * l + 60 ≤ q → li' q = li q) ∧ zr_L (m + 1) (zr_ext g m s) h' l (upd ps l (ps l + 1)) li' ∧
      ∀ post : SX → Prop, post (fw, fm, upd th l (nI (s / 256)), upd tl l (nI (s % 256)), vp_updL bi l z, upd ps l (ps l + 1), li', so, ha, ve) → wX_accept_42 post (nI l) (nI s) z (nI l) fw fm th tl bi ps li so ha ve := by
  obtain ⟨h', li', g1, g2, g3⟩ := zr_acc84 (fw := fw) (fm := fm) (th := upd th l (nI (s / 256))) (tl := upd tl l (nI (s % 256))) (bi := vp_updL bi l z) (so := so) (ha := ha) (ve := ve) hs hl hm hL hB
  refine ⟨h', li', g1, g2, fun post hp => ?_⟩
  have e1 : vp_updL bi (nI l).toNatClampNeg z = vp_updL bi l z := by rw [zr_cl hl]
  have e2 : upd th (nI l).toNatClampNeg (nI s >>> ((8 : Int32) &&& 31)) = upd th l (nI (s / 256)) := by
    rw [zr_cl hl, pk_shrN hs _ 8 (by decide)]
  have e3 : upd tl (nI l).toNatClampNeg (nI s &&& 255) = upd tl l (nI (s % 256)) := by
    rw [zr_cl hl, pk_andN (by omega) 8 (by decide)]
  unfold wX_accept_42
  exact And.intro (zr_in4 hl) (nm_r e1 (And.intro (zr_in4 hl) (nm_r e2 (And.intro (zr_in4 hl) (nm_r e3 (g3 post hp))))))
theorem zr_accept {s : Nat} (hW4 : 4 ≤ W) (hW : W ≤ 64) (hk : ∀ j, j < 64 → zr_bit fm j = decide (j < W)) (hl : l < 4) (hm : m < 60) (hT : zr_T W m g l th tl bi) (hL : zr_L m g h l ps li) (hB : zr_mx g m ≤ 15360)
    (h1 : zr_mx g m + 1 ≤ s + W) (h2 : s + W < zr_mx g m + 257) :
    ∃ (th' tl' : Nat → Int32) (bi' : Nat → Int64) (h' : Nat → Nat) (li' : Nat → Int32), (∀ k, k ≠ l → th' k = th k ∧ tl' k = tl k ∧ bi' k = bi k) ∧ zr_T W (m + 1) (zr_ext g m s) l th' tl' bi' ∧
      (∀ q, q < 60 * l ∨ 60 * l + 60 ≤ q → li' q = li q) ∧ zr_L (m + 1) (zr_ext g m s) h' l (upd ps l (ps l + 1)) li' ∧
      ∀ post : SX → Prop, post (nI W, fm, th', tl', bi', upd ps l (ps l + 1), li', so, ha, ve) → wpX_accept post (nI W, fm, th, tl, bi, ps, li, so, ha, ve) (nI l) (nI s) := by
  have z0 : (0 : Int32).toInt = 0 := by decide
  by_cases c : s ≤ zr_mx g m
  · obtain ⟨h', li', g1, g2, g3⟩ := zr_acc84 (s := s) (fw := nI W) (fm := fm) (th := th) (tl := tl) (bi := vp_updL bi l (bi l ||| ((1 : Int64) <<< ((nI (zr_mx g m - s)).toInt64 &&& 63)))) (so := so) (ha := ha) (ve := ve) (by omega) hl hm hL hB
    refine ⟨th, tl, vp_updL bi l (bi l ||| ((1 : Int64) <<< ((nI (zr_mx g m - s)).toInt64 &&& 63))), h', li', fun k hkl => ⟨rfl, rfl, pk_uLn hkl⟩, ?_, g1, g2, fun post hp => ?_⟩
    · unfold zr_T
      rw [zr_ext_mx, if_pos c, pk_uLs]
      exact ⟨hT.1, hT.2.1, zr_bits_back hW hT.2.2 c h1⟩
    · dsimp only [wpX_accept]
      have e : -(nI s - nI (zr_mx g m)) = nI (zr_mx g m - s) := by
        rw [Int32.neg_sub, pk_sub c]
      refine zr_topOf hl hT (nm_e (br_t ?_ (And.intro (zr_in4 hl) (And.intro (zr_in4 hl) (nm_r ?_ (g3 post hp))))))
      · rw [Int32.le_iff_toInt_le, pk_sub_toInt (by omega) (by omega), z0]; omega
      · rw [zr_cl hl, e]
  · have e : nI s - nI (zr_mx g m) = nI (s - zr_mx g m) := pk_sub (by omega)
    have F : ∀ z : Int64, (∀ j, j < 64 → (zr_bit z j = true ↔ j < W ∧ ∃ i, i < m + 1 ∧ zr_ext g m s i + j = s)) → zr_T W (m + 1) (zr_ext g m s) l (upd th l (nI (s / 256))) (upd tl l (nI (s % 256))) (vp_updL bi l z) := by
      intro z hz
      unfold zr_T
      rw [zr_ext_mx, if_neg c, pk_uLs, pk_us, pk_us]
      exact ⟨rfl, rfl, hz⟩
    by_cases d : s - zr_mx g m < 64
    · obtain ⟨h', li', g1, g2, g3⟩ := zr_acc42 (s := s) (z := ((bi l <<< ((nI (s - zr_mx g m)).toInt64 &&& 63)) ||| 1) &&& fm) (fw := nI W) (fm := fm) (th := th) (tl := tl) (bi := bi) (so := so) (ha := ha) (ve := ve) (by omega) hl hm hL hB
      refine ⟨upd th l (nI (s / 256)), upd tl l (nI (s % 256)), vp_updL bi l (((bi l <<< ((nI (s - zr_mx g m)).toInt64 &&& 63)) ||| 1) &&& fm), h', li', fun k hkl => ⟨pk_un hkl, pk_un hkl, pk_uLn hkl⟩, F _ (zr_bits_ahead hT.2.2 hk (by omega) d), g1, g2, fun post hp => ?_⟩
      dsimp only [wpX_accept]
      refine zr_topOf hl hT (nm_r e (pk_le (s - zr_mx g m) 0 (fun z => absurd z (by omega)) (fun _ => pk_le (s - zr_mx g m) 63 (fun _ => And.intro (zr_in4 hl) ?_) (fun z => absurd z (by omega)))))
      rw [zr_cl hl]
      exact g3 post hp
    · obtain ⟨h', li', g1, g2, g3⟩ := zr_acc42 (s := s) (z := 1) (fw := nI W) (fm := fm) (th := th) (tl := tl) (bi := bi) (so := so) (ha := ha) (ve := ve) (by omega) hl hm hL hB
      refine ⟨upd th l (nI (s / 256)), upd tl l (nI (s % 256)), vp_updL bi l 1, h', li', fun k hkl => ⟨pk_un hkl, pk_un hkl, pk_uLn hkl⟩, F _ (zr_bits_far hW4 (by omega)), g1, g2, fun post hp => ?_⟩
      dsimp only [wpX_accept]
      exact zr_topOf hl hT (nm_r e (pk_le (s - zr_mx g m) 0 (fun z => absurd z (by omega)) (fun _ => pk_le (s - zr_mx g m) 63 (fun z => absurd z (by omega)) (fun _ => g3 post hp))))
end
end
section
/-! the relation's facts, over the fields -/
def zr_R (W : Nat) (fm : Int64) (th tl : Nat → Int32) (bi : Nat → Int64) (ps li ha ve nu mn ve' : Nat → Int32) : Prop :=
  4 ≤ W ∧ W ≤ 64 ∧ (∀ j, j < 64 → zr_bit fm j = decide (j < W)) ∧ (∀ l, l < 4 → ∃ q, 1 ≤ q ∧ q ≤ 60 ∧ ha l = nI q) ∧
  (∀ l, l < 4 → ∀ c, 1 ≤ c → c ≤ 5 → ve (6 * l + c) = ve' (8 * l + c)) ∧
  (∀ l, l < 4 → ∃ m g h, zr_Y m g l nu mn ∧ zr_T W m g l th tl bi ∧ zr_L m g h l ps li)
/-- the relation at the head of a turn -/
def i_Rel (k : Nat) (u : SX) (v : SY) : Prop :=
  ∃ (W : Nat) (fm : Int64) (th tl : Nat → Int32) (bi : Nat → Int64) (ps li so ha ve nu mn ve' : Nat → Int32),
    u = (nI W, fm, th, tl, bi, ps, li, so, ha, ve) ∧ v = (nI W, nu, mn, so, ha, ve') ∧ zr_R W fm th tl bi ps li ha ve nu mn ve'
theorem zr_mk {k W : Nat} {fm : Int64} {th tl : Nat → Int32} {bi : Nat → Int64} {ps li so ha ve nu mn ve' : Nat → Int32} (R : zr_R W fm th tl bi ps li ha ve nu mn ve') :
    i_Rel k (nI W, fm, th, tl, bi, ps, li, so, ha, ve) (nI W, nu, mn, so, ha, ve') := by
  unfold i_Rel
  exact ⟨W, fm, th, tl, bi, ps, li, so, ha, ve, nu, mn, ve', rfl, rfl, R⟩
theorem i_up {k : Nat} {u : SX} {v : SY} (h : i_Rel k u v) : i_Rel (k + 5) u v := h
/-! lines and low parts -/
theorem zr_isLine_t {post : Int32 → Prop} {l : Nat} (hl : l < 4) (hp : post 1) : wpX_isLine post (nI l) :=
  br_f (nI_pos (by omega)) (br_f (nI_nlt (b := l) (a := 3) (by omega) (by decide)) hp)
theorem zr_isLine_f {post : Int32 → Prop} {x : Int32} (h : x < 0 ∨ nI 4 ≤ x) (hp : post 0) : wpX_isLine post x := by
  rcases h with h | h
  · exact br_t h hp
  · have h1 : ¬ x < 0 := fun z => by
      rw [Int32.lt_iff_toInt_lt] at z
      rw [Int32.le_iff_toInt_le, nI_toInt (by omega)] at h
      rw [show (0 : Int32).toInt = 0 from by decide] at z
      omega
    have h2 : 3 < x := by
      rw [Int32.le_iff_toInt_le, nI_toInt (by omega)] at h
      rw [Int32.lt_iff_toInt_lt, show (3 : Int32).toInt = 3 from by decide]
      omega
    exact br_f h1 (br_t h2 hp)
theorem zr_isLow_t {post : Int32 → Prop} {l : Nat} (hl : l < 256) (hp : post 1) : wpX_isLow post (nI l) :=
  br_f (nI_pos (by omega)) (br_f (nI_nlt (b := l) (a := 255) (by omega) (by decide)) hp)
theorem zr_big {x : Int32} {n : Nat} (hn : n < 2 ^ 30) (h : nI (n + 1) ≤ x) : ¬ x < 0 ∧ nI n < x ∧ ¬ x ≤ nI n := by
  rw [Int32.le_iff_toInt_le, nI_toInt (by omega)] at h
  rw [Int32.lt_iff_toInt_lt, Int32.lt_iff_toInt_lt, Int32.le_iff_toInt_le, nI_toInt (by omega), show (0 : Int32).toInt = 0 from by decide]
  omega
theorem zr_isLow_f {post : Int32 → Prop} {x : Int32} (h : x < 0 ∨ nI 256 ≤ x) (hp : post 0) : wpX_isLow post x := by
  rcases h with h | h
  · exact br_t h hp
  · have k := zr_big (n := 255) (by decide) h
    exact br_f k.1 (br_t k.2.1 hp)
theorem zr_bad_t {post : Int32 → Prop} {fw : Int32} {nu mn so ha ve : Nat → Int32} {l : Nat} (hl : l < 4) (hp : post 0) : wpY_bad post (fw, nu, mn, so, ha, ve) (nI l) :=
  br_f (nI_pos (by omega)) (br_t (nI_le (a := l) (b := 3) (by omega) (by decide)) hp)
theorem zr_bad_f {post : Int32 → Prop} {fw : Int32} {nu mn so ha ve : Nat → Int32} {x : Int32} (h : x < 0 ∨ nI 4 ≤ x) (hp : post 1) : wpY_bad post (fw, nu, mn, so, ha, ve) x := by
  rcases h with h | h
  · exact br_t h hp
  · have k := zr_big (n := 3) (by decide) h
    exact br_f k.1 (br_f k.2.2 hp)
theorem zr_cases (x : Int32) {n : Nat} (hn : n < 2 ^ 31) : (x < 0 ∨ nI n ≤ x) ∨ ∃ l, l < n ∧ x = nI l := by
  rcases pk_ix x hn with h | h | h
  · exact Or.inl (Or.inl h)
  · exact Or.inl (Or.inr h)
  · exact Or.inr h
/-! frames -/
section
variable {fm : Int64} {th tl th' tl' : Nat → Int32} {bi bi' : Nat → Int64} {ps li so ha ve nu mn ve' ps' li' nu' mn' : Nat → Int32} {W m l : Nat} {g h : Nat → Nat}
theorem zr_Y_fr (H : zr_Y m g l nu mn) (h1 : mn' l = mn l) (h2 : ∀ i, i < 60 → nu' (60 * l + i) = nu (60 * l + i)) : zr_Y m g l nu' mn' := by
  obtain ⟨a, b, c, d⟩ := H
  exact ⟨a, h1.trans b, fun i hi => (h2 i (by omega)).trans (c i hi), d⟩
theorem zr_T_fr (H : zr_T W m g l th tl bi) (h1 : th' l = th l ∧ tl' l = tl l ∧ bi' l = bi l) : zr_T W m g l th' tl' bi' := by
  unfold zr_T
  rw [h1.1, h1.2.1, h1.2.2]
  exact H
theorem zr_L_fr (hm : m ≤ 60) (H : zr_L m g h l ps li) (h1 : ps' l = ps l) (h2 : ∀ i, i < 60 → li' (60 * l + i) = li (60 * l + i)) : zr_L m g h l ps' li' := by
  obtain ⟨a, b, c⟩ := H
  exact ⟨h1.trans a, fun i hi => (h2 i (by omega)).trans (b i hi), c⟩
theorem zr_ve (R : zr_R W fm th tl bi ps li ha ve nu mn ve') (hl : l < 4) {c : Nat} (h1 : 1 ≤ c) (h5 : c ≤ 5) :
    zr_R W fm th tl bi ps li ha (upd ve (6 * l + c) (ve (6 * l + c) + 1)) nu mn (upd ve' (8 * l + c) (ve' (8 * l + c) + 1)) := by
  obtain ⟨a1, a2, a3, a4, a5, a6⟩ := R
  refine ⟨a1, a2, a3, a4, fun l' hl' c' hc1 hc5 => ?_, a6⟩
  by_cases e : l' = l ∧ c' = c
  · rw [e.1, e.2, pk_us, pk_us, a5 l hl c h1 h5]
  · rw [pk_un (by omega), pk_un (by omega)]
    exact a5 l' hl' c' hc1 hc5
theorem zr_x77 {fw : Int32} {post : Int32 → SX → Prop} (hl : l < 4) {c : Nat} (h1 : 1 ≤ c) (h5 : c ≤ 5) (hp : post (nI c) (fw, fm, th, tl, bi, ps, li, so, ha, upd ve (6 * l + c) (ve (6 * l + c) + 1))) :
    wX_judge_77 post (nI l) (nI c) fw fm th tl bi ps li so ha ve := by
  have i1 : vp_in ((6 : Int32) * nI l + nI c) 24 := by
    rw [zr_i6]
    exact vp_in_nI (by omega) (by decide)
  have e : ((6 : Int32) * nI l + nI c).toNatClampNeg = 6 * l + c := by
    rw [zr_i6]
    exact nI_clamp (by omega)
  have e1 : upd ve ((6 : Int32) * nI l + nI c).toNatClampNeg (ve ((6 : Int32) * nI l + nI c).toNatClampNeg + 1) = upd ve (6 * l + c) (ve (6 * l + c) + 1) := by rw [e]
  exact And.intro i1 (And.intro i1 (nm_r e1 hp))
theorem zr_yrec {fw : Int32} {low c : Nat} {p : Int32} (hl : l < 4) (hlow : low < 256) (h1 : 1 ≤ c) (h5 : c ≤ 5)
    (H : ∀ post : Int32 → SY → Prop, post (nI c) (fw, nu', mn', so, ha, ve) → wpY_verdict post (fw, nu, mn, so, ha, ve) (nI l) (nI low) p)
    (post : Int32 → SY → Prop) (hp : post (nI c) (fw, nu', mn', so, ha, upd ve (8 * l + c) (ve (8 * l + c) + 1))) :
    wpY_receive post (fw, nu, mn, so, ha, ve) (nI l) (nI low) p := by
  have i1 : vp_in ((8 : Int32) * nI l + nI c) 32 := by
    rw [zr_i8]
    exact vp_in_nI (by omega) (by decide)
  have e : ((8 : Int32) * nI l + nI c).toNatClampNeg = 8 * l + c := by
    rw [zr_i8]
    exact nI_clamp (by omega)
  have e1 : upd ve ((8 : Int32) * nI l + nI c).toNatClampNeg (ve ((8 : Int32) * nI l + nI c).toNatClampNeg + 1) = upd ve (8 * l + c) (ve (8 * l + c) + 1) := by rw [e]
  dsimp only [wpY_receive]
  refine zr_bad_t hl (br_t rfl (br_f (nI_pos (by omega)) (br_t (nI_le (a := low) (b := 255) (by omega) (by decide)) (H _ ?_))))
  exact And.intro i1 (And.intro i1 (nm_r e1 hp))
theorem zr_lt1 {N : Nat} (hN : N < 2 ^ 30) (h : N < 257) : ¬ (1 : Int32) ≤ nI N - 256 := by
  have hs : (nI N - 256).toInt = (N : Int) - ((256 : Nat) : Int) := pk_sub_toInt (b := 256) hN (by omega)
  rw [Int32.le_iff_toInt_le, hs, show (1 : Int32).toInt = 1 from by decide]
  omega
theorem zr_R_acc {s : Nat} {h' : Nat → Nat} (R : zr_R W fm th tl bi ps li ha ve nu mn ve') (hl : l < 4) (hm : m < 60) (hY : zr_Y m g l nu mn) (h1 : 1 ≤ s) (h2 : s ≤ zr_mx g m + 256)
    (a1 : ∀ k, k ≠ l → th' k = th k ∧ tl' k = tl k ∧ bi' k = bi k) (a2 : zr_T W (m + 1) (zr_ext g m s) l th' tl' bi') (a3 : ∀ q, q < 60 * l ∨ 60 * l + 60 ≤ q → li' q = li q)
    (a4 : zr_L (m + 1) (zr_ext g m s) h' l (upd ps l (ps l + 1)) li') :
    zr_R W fm th' tl' bi' (upd ps l (ps l + 1)) li' ha ve (upd nu (60 * l + m) (nI s)) (upd mn l (nI (m + 1))) ve' := by
  obtain ⟨r1, r2, r3, r4, r5, r6⟩ := R
  refine ⟨r1, r2, r3, r4, r5, fun k hk => ?_⟩
  by_cases e : k = l
  · subst e
    refine ⟨m + 1, zr_ext g m s, h', ⟨by omega, pk_us, fun i hi => ?_, fun i hi => ?_, ?_⟩, a2, a4⟩
    · by_cases e : i = m
      · rw [e, pk_us, zr_ext_m]
      · rw [pk_un (by omega), zr_ext_n g s (by omega)]
        exact hY.2.2.1 i (by omega)
    · by_cases e : i = m
      · rw [e, zr_ext_m]; exact h1
      · rw [zr_ext_n g s (by omega)]
        exact hY.2.2.2.1 i (by omega)
    · rw [zr_ext_mx]
      have := hY.2.2.2.2
      by_cases c : s ≤ zr_mx g m
      · rw [if_pos c]; omega
      · rw [if_neg c]; omega
  · obtain ⟨m', g', k', b1, b2, b3⟩ := r6 k hk
    refine ⟨m', g', k', zr_Y_fr b1 (pk_un e) (fun i hi => pk_un (by omega)), zr_T_fr b2 (a1 k e), zr_L_fr b1.1 b3 (pk_un e) (fun i hi => a3 _ (by omega))⟩
/-- LOCKSTEP: the component's judge against the reference's receive -/
theorem zr_judge (R : zr_R W fm th tl bi ps li ha ve nu mn ve') (hl : l < 4) {low : Nat} (hlow : low < 256) {p p' : Int32} (hp : p = 0 ↔ p' = 0) :
    ∃ (r : Int32) (u' : SX) (v' : SY), i_Rel 0 u' v' ∧
      (∀ post : Int32 → SX → Prop, post r u' → wpX_judge post (nI W, fm, th, tl, bi, ps, li, so, ha, ve) (nI l) (nI low) p) ∧
      (∀ post : Int32 → SY → Prop, post r v' → wpY_receive post (nI W, nu, mn, so, ha, ve') (nI l) (nI low) p') := by
  obtain ⟨r1, r2, r3, r4, r5, r6⟩ := R
  have R : zr_R W fm th tl bi ps li ha ve nu mn ve' := ⟨r1, r2, r3, r4, r5, r6⟩
  obtain ⟨q, q1, q2, eq⟩ := r4 l hl
  obtain ⟨m, g, h, hY, hT, hL⟩ := r6 l hl
  have hB := zr_YT hY
  have hm := hY.1
  obtain ⟨N, n1, n2, n3⟩ := zr_N (T := zr_mx g m) (W := W) r2 hlow
  have eh : ha (nI l).toNatClampNeg = nI q := by rw [zr_cl hl]; exact eq
  have ep := zr_Lp hl hL
  have em := zr_Ym hl hY
  have i4 := zr_in4 hl
  -- one verdict that changes nothing else
  have S : ∀ c, 1 ≤ c → c ≤ 5 → (∀ post : Int32 → SX → Prop, wX_judge_77 post (nI l) (nI c) (nI W) fm th tl bi ps li so ha ve → wpX_judge post (nI W, fm, th, tl, bi, ps, li, so, ha, ve) (nI l) (nI low) p) →
      (∀ post : Int32 → SY → Prop, post (nI c) (nI W, nu, mn, so, ha, ve') → wpY_verdict post (nI W, nu, mn, so, ha, ve') (nI l) (nI low) p') →
      ∃ (r : Int32) (u' : SX) (v' : SY), i_Rel 0 u' v' ∧
      (∀ post : Int32 → SX → Prop, post r u' → wpX_judge post (nI W, fm, th, tl, bi, ps, li, so, ha, ve) (nI l) (nI low) p) ∧
      (∀ post : Int32 → SY → Prop, post r v' → wpY_receive post (nI W, nu, mn, so, ha, ve') (nI l) (nI low) p') := by
    intro c c1 c5 hX hV
    exact ⟨nI c, _, _, zr_mk (so := so) (zr_ve R hl c1 c5), fun post k => hX post (zr_x77 hl c1 c5 k), fun post k => zr_yrec hl hlow c1 c5 hV post k⟩
  by_cases cd : q ≤ m
  · refine S 5 (by omega) (by omega) (fun post k => ?_) (fun post k => ?_)
    · dsimp only [wpX_judge]
      exact zr_infer r2 hlow hl hT hB n1 n2 n3 (And.intro i4 (And.intro i4 (pk_lt m q (fun z => absurd z (by omega)) (fun _ => k) ep eh)))
    · dsimp only [wpY_verdict]
      exact And.intro i4 (And.intro i4 (pk_lt m q (fun z => absurd z (by omega)) (fun _ => k) em eh))
  · by_cases ce : N < 257
    · refine S 3 (by omega) (by omega) (fun post k => ?_) (fun post k => ?_)
      · dsimp only [wpX_judge]
        exact zr_infer r2 hlow hl hT hB n1 n2 n3 (And.intro i4 (And.intro i4 (pk_lt m q (fun _ => br_f (zr_lt1 (by omega) ce) k) (fun z => absurd z (by omega)) ep eh)))
      · dsimp only [wpY_verdict]
        exact And.intro i4 (And.intro i4 (pk_lt m q (fun _ => zr_taken r2 hl hY n1 n2 n3 (br_f (zr_lt1 (by omega) ce) k)) (fun z => absurd z (by omega)) em eh))
    · obtain ⟨s, rfl⟩ : ∃ s, N = s + 256 := ⟨N - 256, by omega⟩
      have es : nI (s + 256) - 256 = nI s := zr_s256 s
      have g1 : (1 : Int32) ≤ nI s := nI_le (a := 1) (by omega) (by omega)
      by_cases cs : ∃ i, i < m ∧ g i = s
      · refine S 2 (by omega) (by omega) (fun post k => ?_) (fun post k => ?_)
        · dsimp only [wpX_judge]
          refine zr_infer r2 hlow hl hT hB n1 n2 n3 ?_
          rw [es]
          exact And.intro i4 (And.intro i4 (pk_lt m q (fun _ => br_t g1 (zr_isSeen (by omega) r2 hl hT hB (by omega) (fun _ => br_f (by decide) k) (fun z => absurd cs z))) (fun z => absurd z (by omega)) ep eh))
        · dsimp only [wpY_verdict]
          refine And.intro i4 (And.intro i4 (pk_lt m q (fun _ => zr_taken r2 hl hY n1 n2 n3 ?_) (fun z => absurd z (by omega)) em eh))
          rw [es]
          exact br_t g1 (zr_holdsN (by omega) hl hY (fun _ => br_f (by decide) k) (fun z => absurd cs z))
      · by_cases cp : p = 0
        · refine S 4 (by omega) (by omega) (fun post k => ?_) (fun post k => ?_)
          · dsimp only [wpX_judge]
            refine zr_infer r2 hlow hl hT hB n1 n2 n3 ?_
            rw [es]
            exact And.intro i4 (And.intro i4 (pk_lt m q (fun _ => br_t g1 (zr_isSeen (by omega) r2 hl hT hB (by omega) (fun z => absurd z cs) (fun _ => br_t rfl (br_t cp k)))) (fun z => absurd z (by omega)) ep eh))
          · dsimp only [wpY_verdict]
            refine And.intro i4 (And.intro i4 (pk_lt m q (fun _ => zr_taken r2 hl hY n1 n2 n3 ?_) (fun z => absurd z (by omega)) em eh))
            rw [es]
            exact br_t g1 (zr_holdsN (by omega) hl hY (fun z => absurd z cs) (fun _ => br_t rfl (br_t (hp.mp cp) k)))
        · obtain ⟨th', tl', bi', h', li', a1, a2, a3, a4, a5⟩ := zr_accept (so := so) (ha := ha) (ve := ve) (s := s) r1 r2 r3 hl (by omega) hT hL hB (by omega) (by omega)
          have R2 := zr_R_acc (s := s) R hl (by omega) hY (by omega) (by omega) a1 a2 a3 a4
          refine ⟨nI 1, _, _, zr_mk (so := so) (zr_ve R2 hl (c := 1) (by omega) (by omega)), fun post k => ?_, fun post k => ?_⟩
          · dsimp only [wpX_judge]
            refine zr_infer r2 hlow hl hT hB n1 n2 n3 ?_
            rw [es]
            exact And.intro i4 (And.intro i4 (pk_lt m q (fun _ => br_t g1 (zr_isSeen (by omega) r2 hl hT hB (by omega) (fun z => absurd z cs) (fun _ => br_t rfl (br_f cp (a5 _ (zr_x77 hl (c := 1) (by omega) (by omega) k)))))) (fun z => absurd z (by omega)) ep eh))
          · refine zr_yrec hl hlow (c := 1) (by omega) (by omega) (fun post k => ?_) post k
            have e1 : upd nu ((60 : Int32) * nI l + nI m).toNatClampNeg (nI s) = upd nu (60 * l + m) (nI s) := by rw [zr_c60 hl (by omega)]
            have e2 : upd mn (nI l).toNatClampNeg (nI m + 1) = upd mn l (nI (m + 1)) := by rw [zr_cl hl, nI_1]
            dsimp only [wpY_verdict]
            refine And.intro i4 (And.intro i4 (pk_lt m q (fun _ => zr_taken r2 hl hY n1 n2 n3 ?_) (fun z => absurd z (by omega)) em eh))
            rw [es]
            exact br_t g1 (zr_holdsN (by omega) hl hY (fun z => absurd z cs) (fun _ => br_t rfl (br_f (fun z => cp (hp.mpr z)) (And.intro i4 (nm_r em (pk_le 60 m (fun z => absurd z (by omega)) (fun _ => And.intro (zr_in60 hl (by omega)) (nm_r e1 (And.intro i4 (nm_r e2 k))))))))))
end
end
section
/-! the methods that only read -/
theorem i_vc_window {k : Nat} {u : SX} {v : SY} (I : i_Rel k u v) (hk : k + 5 ≤ 2561) : wpX_window (fun r => wpY_window (fun r' => r' = r ∧ i_Rel (k + 5) u v) v) u := by
  obtain ⟨W, fm, th, tl, bi, ps, li, so, ha, ve, nu, mn, ve', rfl, rfl, R⟩ := I
  exact And.intro rfl (zr_mk R)
theorem i_vc_top {k : Nat} {u : SX} {v : SY} (I : i_Rel k u v) (hk : k + 5 ≤ 2561) (v1 : Int32) : wpX_top (fun r => wpY_top (fun r' => r' = r ∧ i_Rel (k + 5) u v) v v1) u v1 := by
  obtain ⟨W, fm, th, tl, bi, ps, li, so, ha, ve, nu, mn, ve', rfl, rfl, R⟩ := I
  dsimp only [wpX_top, wpY_top]
  rcases zr_cases v1 (n := 4) (by decide) with hb | ⟨l, hl, rfl⟩
  · exact zr_isLine_f hb (br_t rfl (zr_bad_f hb (br_f (by decide) ⟨rfl, zr_mk R⟩)))
  · obtain ⟨m, g, h, hY, hT, hL⟩ := R.2.2.2.2.2 l hl
    exact zr_isLine_t hl (br_f (by decide) (zr_topOf hl hT (zr_bad_t hl (br_t rfl (zr_great hl hY ⟨rfl, zr_mk R⟩)))))
theorem i_vc_accepted {k : Nat} {u : SX} {v : SY} (I : i_Rel k u v) (hk : k + 5 ≤ 2561) (v1 : Int32) : wpX_accepted (fun r => wpY_accepted (fun r' => r' = r ∧ i_Rel (k + 5) u v) v v1) u v1 := by
  obtain ⟨W, fm, th, tl, bi, ps, li, so, ha, ve, nu, mn, ve', rfl, rfl, R⟩ := I
  dsimp only [wpX_accepted, wpY_accepted]
  rcases zr_cases v1 (n := 4) (by decide) with hb | ⟨l, hl, rfl⟩
  · exact zr_isLine_f hb (br_t rfl (zr_bad_f hb (br_f (by decide) ⟨rfl, zr_mk R⟩)))
  · obtain ⟨m, g, h, hY, hT, hL⟩ := R.2.2.2.2.2 l hl
    have e := (zr_Ym hl hY).trans (zr_Lp hl hL).symm
    exact zr_isLine_t hl (br_f (by decide) (And.intro (zr_in4 hl) (zr_bad_t hl (br_t rfl (And.intro (zr_in4 hl) ⟨e, zr_mk R⟩)))))
theorem i_vc_dead {k : Nat} {u : SX} {v : SY} (I : i_Rel k u v) (hk : k + 5 ≤ 2561) (v1 : Int32) : wpX_dead (fun r => wpY_dead (fun r' => r' = r ∧ i_Rel (k + 5) u v) v v1) u v1 := by
  obtain ⟨W, fm, th, tl, bi, ps, li, so, ha, ve, nu, mn, ve', rfl, rfl, R⟩ := I
  dsimp only [wpX_dead, wpY_dead]
  rcases zr_cases v1 (n := 4) (by decide) with hb | ⟨l, hl, rfl⟩
  · exact zr_isLine_f hb (br_t rfl (zr_bad_f hb (br_f (by decide) ⟨rfl, zr_mk R⟩)))
  · obtain ⟨m, g, h, hY, hT, hL⟩ := R.2.2.2.2.2 l hl
    have e := (zr_Ym hl hY).trans (zr_Lp hl hL).symm
    have i4 := zr_in4 hl
    refine zr_isLine_t hl (br_f (by decide) (And.intro i4 (And.intro i4 (br_c (fun z => zr_bad_t hl (br_t rfl (And.intro i4 (And.intro i4 ?_)))) (fun z => zr_bad_t hl (br_t rfl (And.intro i4 (And.intro i4 ?_))))))))
    · exact br_t (by rw [e]; exact z) ⟨rfl, zr_mk R⟩
    · exact br_f (by rw [e]; exact z) ⟨rfl, zr_mk R⟩
theorem i_vc_aging {k : Nat} {u : SX} {v : SY} (I : i_Rel k u v) (hk : k + 5 ≤ 2561) (v1 : Int32) : wpX_aging (fun r => wpY_aging (fun r' => r' = r ∧ i_Rel (k + 5) u v) v v1) u v1 := by
  obtain ⟨W, fm, th, tl, bi, ps, li, so, ha, ve, nu, mn, ve', rfl, rfl, R⟩ := I
  dsimp only [wpX_aging, wpY_aging]
  rcases zr_cases v1 (n := 4) (by decide) with hb | ⟨l, hl, rfl⟩
  · exact zr_isLine_f hb (br_t rfl (zr_bad_f hb (br_f (by decide) ⟨rfl, zr_mk R⟩)))
  · obtain ⟨m, g, h, hY, hT, hL⟩ := R.2.2.2.2.2 l hl
    have e := (zr_Ym hl hY).trans (zr_Lp hl hL).symm
    have i4 := zr_in4 hl
    refine zr_isLine_t hl (br_f (by decide) (And.intro i4 (And.intro i4 (br_c (fun z => zr_bad_t hl (br_t rfl (And.intro i4 (And.intro i4 ?_)))) (fun z => zr_bad_t hl (br_t rfl (And.intro i4 (And.intro i4 ?_))))))))
    · exact br_t (by rw [e]; exact z) ⟨rfl, zr_mk R⟩
    · exact br_f (by rw [e]; exact z) ⟨rfl, zr_mk R⟩
theorem zr_ge1 {x : Int32} (h : ¬ x < 1) : ¬ x < 0 := by
  rw [Int32.lt_iff_toInt_lt, show (1 : Int32).toInt = 1 from by decide] at h
  rw [Int32.lt_iff_toInt_lt, show (0 : Int32).toInt = 0 from by decide]
  omega
theorem i_vc_count {k : Nat} {u : SX} {v : SY} (I : i_Rel k u v) (hk : k + 5 ≤ 2561) (v1 : Int32) (v2 : Int32) : wpX_count (fun r => wpY_count (fun r' => r' = r ∧ i_Rel (k + 5) u v) v v1 v2) u v1 v2 := by
  obtain ⟨W, fm, th, tl, bi, ps, li, so, ha, ve, nu, mn, ve', rfl, rfl, R⟩ := I
  dsimp only [wpX_count, wpY_count]
  rcases zr_cases v1 (n := 4) (by decide) with hb | ⟨l, hl, rfl⟩
  · exact zr_isLine_f hb (br_t rfl (zr_bad_f hb (br_f (by decide) ⟨rfl, zr_mk R⟩)))
  · refine zr_isLine_t hl (br_f (by decide) ?_)
    by_cases a : v2 < 1
    · exact br_t a (zr_bad_t hl (br_t rfl (br_t a ⟨rfl, zr_mk R⟩)))
    · by_cases b : 5 < v2
      · exact br_f a (br_t b (zr_bad_t hl (br_t rfl (br_f a (br_f (Int32.not_le.mpr b) ⟨rfl, zr_mk R⟩)))))
      · obtain ⟨c, c5, rfl⟩ := nI_of2 (M := 5) (n := 5) (by decide) (zr_ge1 a) (Int32.not_lt.mp b)
        have c1 : 1 ≤ c := by
          rcases Nat.lt_or_ge 0 c with z | z
          · exact z
          · exact absurd (show nI c < 1 from nI_lt (b := 1) (by omega) (by decide)) a
        have x1 : (6 : Int32) * nI l + nI c = nI (6 * l + c) := zr_i6 l c
        have y1 : (8 : Int32) * nI l + nI c = nI (8 * l + c) := zr_i8 l c
        refine br_f a (br_f b (And.intro ?_ (zr_bad_t hl (br_t rfl (br_f a (br_t (Int32.not_lt.mp b) (And.intro ?_ ⟨?_, zr_mk R⟩)))))))
        · rw [x1]; exact vp_in_nI (by omega) (by decide)
        · rw [y1]; exact vp_in_nI (by omega) (by decide)
        · rw [x1, y1, nI_clamp (by omega), nI_clamp (by omega)]
          exact (R.2.2.2.2.1 l hl c c1 c5).symm
theorem i_vc_numberFor {k : Nat} {u : SX} {v : SY} (I : i_Rel k u v) (hk : k + 5 ≤ 2561) (v1 : Int32) (v2 : Int32) : wpX_numberFor (fun r => wpY_numberFor (fun r' => r' = r ∧ i_Rel (k + 5) u v) v v1 v2) u v1 v2 := by
  obtain ⟨W, fm, th, tl, bi, ps, li, so, ha, ve, nu, mn, ve', rfl, rfl, R⟩ := I
  dsimp only [wpX_numberFor, wpY_numberFor]
  rcases zr_cases v1 (n := 4) (by decide) with hb | ⟨l, hl, rfl⟩
  · exact zr_isLine_f hb (br_t rfl (zr_bad_f hb (br_f (by decide) ⟨rfl, zr_mk R⟩)))
  · refine zr_isLine_t hl (br_f (by decide) ?_)
    rcases zr_cases v2 (n := 256) (by decide) with hb | ⟨low, hlow, rfl⟩
    · refine zr_isLow_f hb (br_t rfl (zr_bad_t hl (br_t rfl ?_)))
      rcases hb with z | z
      · exact br_t z ⟨rfl, zr_mk R⟩
      · have q := zr_big (n := 255) (by decide) z
        exact br_f q.1 (br_f q.2.2 ⟨rfl, zr_mk R⟩)
    · obtain ⟨m, g, h, hY, hT, hL⟩ := R.2.2.2.2.2 l hl
      obtain ⟨N, n1, n2, n3⟩ := zr_N (T := zr_mx g m) (W := W) R.2.1 hlow
      exact zr_isLow_t hlow (br_f (by decide) (zr_infer R.2.1 hlow hl hT (zr_YT hY) n1 n2 n3 (zr_bad_t hl (br_t rfl (br_f (nI_pos (by omega)) (br_t (nI_le (a := low) (b := 255) (by omega) (by decide)) (zr_taken R.2.1 hl hY n1 n2 n3 ⟨rfl, zr_mk R⟩)))))))
theorem i_vc_has {k : Nat} {u : SX} {v : SY} (I : i_Rel k u v) (hk : k + 5 ≤ 2561) (v1 : Int32) (v2 : Int32) : wpX_has (fun r => wpY_has (fun r' => r' = r ∧ i_Rel (k + 5) u v) v v1 v2) u v1 v2 := by
  obtain ⟨W, fm, th, tl, bi, ps, li, so, ha, ve, nu, mn, ve', rfl, rfl, R⟩ := I
  dsimp only [wpX_has, wpY_has]
  rcases zr_cases v1 (n := 4) (by decide) with hb | ⟨l, hl, rfl⟩
  · exact zr_isLine_f hb (br_t rfl (zr_bad_f hb (br_f (by decide) ⟨rfl, zr_mk R⟩)))
  · obtain ⟨m, g, h, hY, hT, hL⟩ := R.2.2.2.2.2 l hl
    have hB := zr_YT hY
    have hm := hY.1
    have hW := R.2.1
    refine zr_isLine_t hl (br_f (by decide) (zr_topOf hl hT ?_))
    by_cases a : v2 < 1
    · refine br_t a (zr_bad_t hl (br_t rfl (zr_holds hl hY ?_ (fun _ => br_t rfl ⟨rfl, zr_mk R⟩))))
      rintro ⟨i, hi, e⟩
      have h1 := hY.2.2.2.1 i hi
      have h2 := zr_Yle hY hi
      exact absurd (e ▸ a) (nI_nlt (b := 1) h1 (by omega))
    · obtain ⟨n, hn, rfl⟩ := nI_of (zr_ge1 a)
      refine br_f a ?_
      by_cases b : n ≤ zr_mx g m
      · refine br_t (nI_le b (by omega)) ?_
        rw [pk_sub b]
        by_cases c : W ≤ zr_mx g m - n
        · refine br_t (nI_le c (by omega)) (zr_place hn hl hm hL hB (And.intro (zr_in4 hl) ?_))
          have F := zr_find (n := n) hL.2.2
          refine pk_le m (zr_cnt g m n) (fun z => ?_) (fun z => And.intro (zr_in60 hl (by omega)) ?_) (zr_Lp hl hL) rfl (by omega) (by have := zr_cnt_le g n m; omega)
          · refine zr_bad_t hl (br_t rfl (zr_holdsN hn hl hY (fun y => ?_) (fun _ => br_t rfl ⟨rfl, zr_mk R⟩)))
            have := F.mpr y
            omega
          · have hh := zr_hle hL.2.2 _ z
            refine pk_eq (h (zr_cnt g m n)) n (fun y => ?_) (fun y => ?_) (zr_Li hl hm hL z)
            · exact zr_bad_t hl (br_t rfl (zr_holdsN hn hl hY (fun _ => br_f (by decide) ⟨rfl, zr_mk R⟩) (fun w => absurd (F.mp ⟨z, y⟩) w)))
            · exact zr_bad_t hl (br_t rfl (zr_holdsN hn hl hY (fun w => absurd (F.mpr w).2 y) (fun _ => br_t rfl ⟨rfl, zr_mk R⟩)))
        · refine br_f (nI_ge (by omega) (by omega)) (And.intro (zr_in4 hl) ?_)
          have hb := hT.2.2 (zr_mx g m - n) (by omega)
          rw [zr_cl hl, zr_get _ (by omega)]
          by_cases d : zr_bit (bi l) (zr_mx g m - n) = true
          · rw [if_pos d]
            refine zr_bad_t hl (br_t rfl (zr_holdsN hn hl hY (fun _ => br_f (by decide) ⟨rfl, zr_mk R⟩) (fun w => absurd ?_ w)))
            obtain ⟨_, i, y, z⟩ := hb.mp d
            clear hb
            exact ⟨i, y, by omega⟩
          · rw [if_neg d]
            refine zr_bad_t hl (br_t rfl (zr_holdsN hn hl hY ?_ (fun _ => br_t rfl ⟨rfl, zr_mk R⟩)))
            rintro ⟨i, y, z⟩
            refine absurd (hb.mpr ⟨?_, i, y, ?_⟩) d <;> clear hb <;> omega
      · refine br_f (nI_ge (by omega) (by omega)) (zr_bad_t hl (br_t rfl (zr_holdsN hn hl hY ?_ (fun _ => br_t rfl ⟨rfl, zr_mk R⟩))))
        rintro ⟨i, y, z⟩
        have := zr_mx_ge g m i y
        omega
end
section
/-! inWindow, lost, gap -/
theorem zr_bs_cut {f : Nat → Bool} {W : Nat} : ∀ k, (∀ j, W ≤ j → j < W + k → ¬ f j = true) → zr_bs f (W + k) = zr_bs f W := by
  intro k
  induction k with
  | zero => intro _; rfl
  | succ k ih =>
    intro h
    rw [← Nat.add_assoc, zr_bs_s, if_neg (h (W + k) (by omega) (by omega)), Nat.add_zero]
    exact ih (fun j h1 h2 => h j h1 (by omega))
section
variable {fw : Int32} {fm : Int64} {th tl : Nat → Int32} {bi : Nat → Int64} {ps li so ha ve nu mn ve' : Nat → Int32} {W m l : Nat} {g h : Nat → Nat}
theorem zr_inw {post : Int32 → Prop} {f : Nat → Bool} {T A : Nat} (hl : l < 4) (hY : zr_Y m g l nu mn) (hW : W ≤ 64) (hT : T ≤ 15360) (hf : ∀ j, j < W → (f j = true ↔ ∃ i, i < m ∧ g i + j = T)) (hp : post (nI A)) :
    ∀ d c, d ≤ W → c + zr_bs f d = A → wY_inWindow_28 post (nI l) (nI T) fw nu mn so ha ve (d + 1) (nI c) (nI T - nI d + 1) := by
  intro d
  induction d with
  | zero =>
    intro c hd hc
    have e : nI T - nI 0 + 1 = nI (T + 1) := by
      rw [pk_sub (Nat.zero_le T), nI_1]
      rfl
    have hc' : c = A := hc
    rw [e]
    subst hc'
    exact br_t (nI_lt (by omega) (by omega)) hp
  | succ d ih =>
    intro c hd hc
    have e : nI T - nI (d + 1) + 1 = nI T - nI d := by
      rw [← nI_1]
      grind
    rw [e]
    have nl : ¬ nI T < nI T - nI d := by
      rw [Int32.lt_iff_toInt_lt, pk_sub_toInt (by omega) (by omega), nI_toInt (by omega)]
      omega
    have hfd := hf d (by omega)
    rw [zr_bs_s] at hc
    refine br_f nl (zr_holdsD (by omega) (by omega) hl hY (fun z => ?_) (fun z => ?_))
    · rw [if_pos (hfd.mpr z)] at hc
      exact br_f (by decide) (nm_r (nI_1 c) (nm_e (ih (c + 1) (by omega) (by omega))))
    · rw [if_neg (fun y => z (hfd.mp y))] at hc
      exact br_t rfl (nm_e (ih c (by omega) (by omega)))
theorem zr_lost_a {post : Int32 → Prop} {x : Int32} {B : Nat} (hB : B < 2 ^ 30) (hl : l < 4) (hY : zr_Y m g l nu mn) (hp : post (x - nI (zr_cnt g m (B + 1)))) :
    ∀ d i, i + d = m → wY_lost_34 post (nI l) (nI B) fw nu mn so ha ve (d + 1) (x - nI (zr_cnt g i (B + 1))) (nI i) := by
  have hm := hY.1
  intro d
  induction d with
  | zero =>
    intro i hi
    have e : i = m := by omega
    subst e
    exact And.intro (zr_in4 hl) (pk_le i i (fun _ => hp) (fun z => absurd z (Nat.lt_irrefl _)) (zr_Ym hl hY) rfl)
  | succ d ih =>
    intro i hi
    have him : i < m := by omega
    have ln := zr_Yle hY him
    have k := ih (i + 1) (by omega)
    rw [zr_cnt_s] at k
    refine And.intro (zr_in4 hl) (pk_le m i (fun z => absurd z (by omega)) (fun _ => pk_le 60 i (fun z => absurd z (by omega)) (fun _ => And.intro (zr_in60 hl (by omega)) (pk_lt B (g i) (fun z => ?_) (fun z => ?_) rfl (zr_Yn hl hY him)))) (zr_Ym hl hY))
    · rw [if_neg (by omega), Nat.add_zero] at k
      exact nm_r (nI_1 i) k
    · rw [if_pos (by omega), ← nI_1] at k
      have e : x - nI (zr_cnt g i (B + 1)) + (-1) = x - (nI (zr_cnt g i (B + 1)) + 1) := by grind
      exact nm_r e (nm_r (nI_1 i) k)
theorem zr_lost_b {post : Int32 → Prop} {x b : Int32} (hb : b < 0) (hl : l < 4) (hY : zr_Y m g l nu mn) (hp : post x) :
    ∀ d i, i + d = m → wY_lost_34 post (nI l) b fw nu mn so ha ve (d + 1) x (nI i) := by
  have hm := hY.1
  intro d
  induction d with
  | zero =>
    intro i hi
    have e : i = m := by omega
    subst e
    exact And.intro (zr_in4 hl) (pk_le i i (fun _ => hp) (fun z => absurd z (Nat.lt_irrefl _)) (zr_Ym hl hY) rfl)
  | succ d ih =>
    intro i hi
    have him : i < m := by omega
    have ln := zr_Yle hY him
    refine And.intro (zr_in4 hl) (pk_le m i (fun z => absurd z (by omega)) (fun _ => pk_le 60 i (fun z => absurd z (by omega)) (fun _ => And.intro (zr_in60 hl (by omega)) (br_t ?_ (nm_r (nI_1 i) (ih (i + 1) (by omega)))))) (zr_Ym hl hY))
    rw [zr_Yn hl hY him, Int32.lt_iff_toInt_lt, nI_toInt (by omega)]
    rw [Int32.lt_iff_toInt_lt, show (0 : Int32).toInt = 0 from by decide] at hb
    omega
theorem zr_gap_l (hl : l < 4) (hY : zr_Y m g l nu mn) (hT : zr_T W m g l th tl bi) (hW : W ≤ 64) :
    ∀ d k, k + d = W → 1 ≤ k → k ≤ zr_mx g m → ∃ r : Int32,
      (∀ post : Int32 → Prop, post r → wX_gap_17 post (nI l) (nI (zr_mx g m)) (nI W) fm th tl bi ps li so ha ve (d + 1) (nI k)) ∧
      (∀ post : Int32 → Prop, post r → wY_gap_20 post (nI l) (nI (zr_mx g m)) (nI W) nu mn so ha ve' (d + 1) (nI (zr_mx g m) - nI k)) := by
  have hB := zr_YT hY
  have eE : nI (zr_mx g m) - nI W + 1 = nI (zr_mx g m + 257 - W) - 256 := zr_F hW
  have tE : (nI (zr_mx g m + 257 - W) - 256).toInt = ((zr_mx g m + 257 - W : Nat) : Int) - ((256 : Nat) : Int) := pk_sub_toInt (b := 256) (by omega) (by omega)
  have t1 : (1 : Int32).toInt = 1 := by decide
  intro d
  induction d with
  | zero =>
    intro k hk h1 h2
    have e : k = W := by omega
    subst e
    refine ⟨0, fun post hp => br_t (nI_le (Nat.le_refl _) (by omega)) hp, fun post hp => br_t ?_ hp⟩
    rw [eE, Int32.lt_iff_toInt_lt, tE, pk_sub_toInt (by omega) (by omega)]
    omega
  | succ d ih =>
    intro k hk h1 h2
    have kW : ¬ nI W ≤ nI k := nI_ge (by omega) (by omega)
    have nE : ¬ nI (zr_mx g m) - nI k < nI (zr_mx g m) - nI W + 1 := by
      rw [eE, Int32.lt_iff_toInt_lt, tE, pk_sub_toInt (by omega) (by omega)]
      omega
    by_cases c : k = zr_mx g m
    · refine ⟨0, fun post hp => br_f kW (br_t (nI_le (by omega) (by omega)) hp), fun post hp => br_f nE (br_t ?_ hp)⟩
      rw [Int32.lt_iff_toInt_lt, t1, pk_sub_toInt (by omega) (by omega)]
      omega
    · have kT : ¬ nI (zr_mx g m) ≤ nI k := nI_ge (by omega) (by omega)
      have n1 : ¬ nI (zr_mx g m) - nI k < 1 := by
        rw [Int32.lt_iff_toInt_lt, t1, pk_sub_toInt (by omega) (by omega)]
        omega
      have hb := hT.2.2 k (by omega)
      by_cases b : zr_bit (bi l) k = true
      · obtain ⟨r, hX, hV⟩ := ih (k + 1) (by omega) (by omega) (by omega)
        refine ⟨r, fun post hp => br_f kW (br_f kT (And.intro (zr_in4 hl) ?_)), fun post hp => br_f nE (br_f n1 (zr_holdsD (by omega) (by omega) hl hY (fun _ => ?_) (fun z => absurd (hb.mp b).2 z)))⟩
        · rw [zr_cl hl, zr_get _ (by omega), if_pos b]
          exact br_f (by decide) (nm_r (nI_1 k) (hX post hp))
        · have e : nI (zr_mx g m) - nI k + (-1) = nI (zr_mx g m) - nI (k + 1) := by
            rw [← nI_1]
            grind
          exact br_f (by decide) (nm_r e (hV post hp))
      · refine ⟨nI (zr_mx g m) - nI k, fun post hp => br_f kW (br_f kT (And.intro (zr_in4 hl) ?_)), fun post hp => br_f nE (br_f n1 (zr_holdsD (by omega) (by omega) hl hY (fun z => absurd (hb.mpr ⟨by omega, z⟩) b) (fun _ => br_t rfl hp)))⟩
        rw [zr_cl hl, zr_get _ (by omega), if_neg b]
        exact br_t rfl hp
end
theorem i_vc_inWindow {k : Nat} {u : SX} {v : SY} (I : i_Rel k u v) (hk : k + 5 ≤ 2561) (v1 : Int32) : wpX_inWindow (fun r => wpY_inWindow (fun r' => r' = r ∧ i_Rel (k + 5) u v) v v1) u v1 := by
  obtain ⟨W, fm, th, tl, bi, ps, li, so, ha, ve, nu, mn, ve', rfl, rfl, R⟩ := I
  dsimp only [wpX_inWindow, wpY_inWindow]
  rcases zr_cases v1 (n := 4) (by decide) with hb | ⟨l, hl, rfl⟩
  · exact zr_isLine_f hb (br_t rfl (zr_bad_f hb (br_f (by decide) ⟨rfl, zr_mk R⟩)))
  · obtain ⟨m, g, h, hY, hT, hL⟩ := R.2.2.2.2.2 l hl
    have hW := R.2.1
    refine zr_isLine_t hl (br_f (by decide) (And.intro (zr_in4 hl) ?_))
    rw [zr_cl hl]
    refine zr_ones (zr_bad_t hl (br_t rfl (zr_great hl hY (nm_e (Exists.intro (W + 1) ?_)))))
    have e : zr_bs (zr_bit (bi l)) 64 = zr_bs (zr_bit (bi l)) W := by
      have c := zr_bs_cut (f := zr_bit (bi l)) (W := W) (64 - W) (fun j h1 h2 z => by
        have := (hT.2.2 j (by omega)).mp z
        omega)
      rw [show W + (64 - W) = 64 by omega] at c
      exact c
    exact zr_inw (f := zr_bit (bi l)) (A := zr_bs (zr_bit (bi l)) W) hl hY hW (zr_YT hY) (fun j hj => ⟨fun z => ((hT.2.2 j (by omega)).mp z).2, fun z => (hT.2.2 j (by omega)).mpr ⟨hj, z⟩⟩) ⟨congrArg nI e.symm, zr_mk R⟩ W 0 (Nat.le_refl _) (Nat.zero_add _)
theorem i_vc_lost {k : Nat} {u : SX} {v : SY} (I : i_Rel k u v) (hk : k + 5 ≤ 2561) (v1 : Int32) : wpX_lost (fun r => wpY_lost (fun r' => r' = r ∧ i_Rel (k + 5) u v) v v1) u v1 := by
  obtain ⟨W, fm, th, tl, bi, ps, li, so, ha, ve, nu, mn, ve', rfl, rfl, R⟩ := I
  dsimp only [wpX_lost, wpY_lost]
  rcases zr_cases v1 (n := 4) (by decide) with hb | ⟨l, hl, rfl⟩
  · exact zr_isLine_f hb (br_t rfl (zr_bad_f hb (br_f (by decide) ⟨rfl, zr_mk R⟩)))
  · obtain ⟨m, g, h, hY, hT, hL⟩ := R.2.2.2.2.2 l hl
    have hW := R.2.1
    have hB := zr_YT hY
    refine zr_isLine_t hl (br_f (by decide) (zr_topOf hl hT ?_))
    by_cases c : zr_mx g m < W
    · have neg : nI (zr_mx g m) - nI W < 0 := pk_sneg (by omega) c
      have n0 : ¬ 0 < nI (zr_mx g m) - nI W := fun z => Int32.lt_irrefl (Int32.lt_trans z neg)
      have n1 : ¬ 0 ≤ nI (zr_mx g m) - nI W := Int32.not_le.mpr neg
      exact nm_e (br_f n0 (zr_bad_t hl (br_t rfl (zr_great hl hY (nm_e (br_f n1 (Exists.intro (m + 1) (zr_lost_b neg hl hY ⟨rfl, zr_mk R⟩ m 0 (by omega)))))))))
    · rw [pk_sub (show W ≤ zr_mx g m by omega)]
      obtain ⟨B, eB⟩ : ∃ B, zr_mx g m - W = B := ⟨_, rfl⟩
      rw [eB]
      have p0 : (0 : Int32) ≤ nI B := nI_pos' (by omega)
      -- the reference's walk
      have V : ∀ r : Int32, r = nI B - nI (zr_cnt g m (B + 1)) → wpY_bad (fun r_1 => (r_1 = 0 → wpY_greatest (fun r_9 => ∀ x2_16 : Int32, x2_16 = r_9 - nI W → (0 ≤ x2_16 → ∃ n34 : Nat, wY_lost_34 (fun r' => r' = r ∧ i_Rel (k + 5) (nI W, fm, th, tl, bi, ps, li, so, ha, ve) (nI W, nu, mn, so, ha, ve')) (nI l) x2_16 (nI W) nu mn so ha ve' n34 x2_16 0) ∧ (¬ 0 ≤ x2_16 → ∃ n34 : Nat, wY_lost_34 (fun r' => r' = r ∧ i_Rel (k + 5) (nI W, fm, th, tl, bi, ps, li, so, ha, ve) (nI W, nu, mn, so, ha, ve')) (nI l) x2_16 (nI W) nu mn so ha ve' n34 0 0)) (nI W, nu, mn, so, ha, ve') (nI l)) ∧ (¬ r_1 = 0 → (-1) = r ∧ i_Rel (k + 5) (nI W, fm, th, tl, bi, ps, li, so, ha, ve) (nI W, nu, mn, so, ha, ve'))) (nI W, nu, mn, so, ha, ve') (nI l) := by
        intro r hr
        have eS : nI (zr_mx g m) - nI W = nI B := by rw [pk_sub (show W ≤ zr_mx g m by omega), eB]
        refine zr_bad_t hl (br_t rfl (zr_great hl hY (nm_r eS (br_t p0 (Exists.intro (m + 1) ?_)))))
        have K := zr_lost_a (fw := nI W) (so := so) (ha := ha) (ve := ve') (x := nI B) (B := B) (post := fun r' => r' = r ∧ i_Rel (k + 5) (nI W, fm, th, tl, bi, ps, li, so, ha, ve) (nI W, nu, mn, so, ha, ve')) (by omega) hl hY ⟨hr.symm, zr_mk R⟩ m 0 (by omega)
        rw [zr_cnt_0, pk_sub (Nat.zero_le _)] at K
        exact K
      refine nm_e ?_
      by_cases d : B = 0
      · subst d
        refine br_f (by decide) (V 0 ?_)
        have z : zr_cnt g m (0 + 1) = 0 := by
          have : ∀ i, i ≤ m → zr_cnt g i (0 + 1) = 0 := by
            intro i
            induction i with
            | zero => intro _; rfl
            | succ i ih =>
              intro hi
              have := hY.2.2.2.1 i (by omega)
              rw [zr_cnt_s, ih (by omega), if_neg (by omega)]
          exact this m (Nat.le_refl _)
        rw [z]
        decide
      · refine br_t (nI_lt (a := 0) (by omega) (by omega)) ?_
        rw [nI_1]
        exact zr_place (by omega) hl hY.1 hL hB (V _ rfl)
theorem i_vc_gap {k : Nat} {u : SX} {v : SY} (I : i_Rel k u v) (hk : k + 5 ≤ 2561) (v1 : Int32) : wpX_gap (fun r => wpY_gap (fun r' => r' = r ∧ i_Rel (k + 5) u v) v v1) u v1 := by
  obtain ⟨W, fm, th, tl, bi, ps, li, so, ha, ve, nu, mn, ve', rfl, rfl, R⟩ := I
  dsimp only [wpX_gap, wpY_gap]
  rcases zr_cases v1 (n := 4) (by decide) with hb | ⟨l, hl, rfl⟩
  · exact zr_isLine_f hb (br_t rfl (zr_bad_f hb (br_f (by decide) ⟨rfl, zr_mk R⟩)))
  · obtain ⟨m, g, h, hY, hT, hL⟩ := R.2.2.2.2.2 l hl
    have hW := R.2.1
    have hW4 := R.1
    have hB := zr_YT hY
    by_cases c : zr_mx g m = 0
    · have t1 : (1 : Int32).toInt = 1 := by decide
      have m1 : ((0 : Int32) - 1).toInt = -1 := by decide
      refine zr_isLine_t hl (br_f (by decide) (zr_topOf hl hT (Exists.intro 1 (br_f (nI_ge (b := W) (a := 1) (by omega) (by omega)) (br_t ?_ (zr_bad_t hl (br_t rfl (zr_great hl hY (nm_e (Exists.intro 1 (br_f ?_ (br_t ?_ ⟨rfl, zr_mk R⟩))))))))))))
      · rw [c]; decide
      · rw [c, zr_F hW, Int32.lt_iff_toInt_lt, nI_0, m1]
        have tE : (nI (0 + 257 - W) - 256).toInt = ((0 + 257 - W : Nat) : Int) - ((256 : Nat) : Int) := pk_sub_toInt (b := 256) (by omega) (by omega)
        rw [tE]
        omega
      · rw [c]; decide
    · obtain ⟨r, hX, hV⟩ := zr_gap_l (fm := fm) (ps := ps) (li := li) (so := so) (ha := ha) (ve := ve) (ve' := ve') hl hY hT hW (W - 1) 1 (by omega) (by omega) (by omega)
      exact zr_isLine_t hl (br_f (by decide) (zr_topOf hl hT (Exists.intro (W - 1 + 1) (hX _ (zr_bad_t hl (br_t rfl (zr_great hl hY (nm_e (Exists.intro (W - 1 + 1) (hV _ ⟨rfl, zr_mk R⟩))))))))))
end
section
/-! the constructors and the methods that store -/
/-- four lines with v each -/
def zr_S (v : Int32) : Nat → Int32 := upd (upd (upd (upd (fun _ => 0) 0 v) 1 v) 2 v) 3 v
theorem zr_S_at (v : Int32) {l : Nat} (hl : l < 4) : zr_S v l = v := by
  unfold zr_S
  by_cases a : l = 3
  · rw [a, pk_us]
  · rw [pk_un a]
    by_cases b : l = 2
    · rw [b, pk_us]
    · rw [pk_un b]
      by_cases c : l = 1
      · rw [c, pk_us]
      · rw [pk_un c, show l = 0 by omega, pk_us]
theorem zr_iX {post : SX → Prop} {fw : Int32} {fm : Int64} {n k : Nat} {a0 a1 a3 a4 a5 a6 a7 : Nat → Int32} {a2 : Nat → Int64} (hk : k < 4) (h : wX_init_121 post fw fm n (nI (k + 1)) a0 a1 a2 a3 a4 (upd a5 k 40) (upd a6 k 60) a7) :
    wX_init_121 post fw fm (n + 1) (nI k) a0 a1 a2 a3 a4 a5 a6 a7 := by
  have e1 : upd a5 (nI k).toNatClampNeg 40 = upd a5 k 40 := by rw [zr_cl hk]
  have e2 : upd a6 (nI k).toNatClampNeg 60 = upd a6 k 60 := by rw [zr_cl hk]
  exact pk_le 4 k (fun z => absurd z (by omega)) (fun _ => And.intro (zr_in4 hk) (nm_r e1 (And.intro (zr_in4 hk) (nm_r e2 (nm_r (nI_1 k) h)))))
theorem zr_iY {post : SY → Prop} {fw : Int32} {n k : Nat} {a3 a4 a5 a6 a7 : Nat → Int32} (hk : k < 4) (h : wY_init_69 post fw n (nI (k + 1)) a3 a4 (upd a5 k 40) (upd a6 k 60) a7) :
    wY_init_69 post fw (n + 1) (nI k) a3 a4 a5 a6 a7 := by
  have e1 : upd a5 (nI k).toNatClampNeg 40 = upd a5 k 40 := by rw [zr_cl hk]
  have e2 : upd a6 (nI k).toNatClampNeg 60 = upd a6 k 60 := by rw [zr_cl hk]
  exact pk_le 4 k (fun z => absurd z (by omega)) (fun _ => And.intro (zr_in4 hk) (nm_r e1 (And.intro (zr_in4 hk) (nm_r e2 (nm_r (nI_1 k) h)))))
theorem zr_initX {post : SX → Prop} {fw : Int32} {fm : Int64} (hp : post (fw, fm, fun _ => 0, fun _ => 0, fun _ => 0, fun _ => 0, fun _ => 0, zr_S 40, zr_S 60, fun _ => 0)) :
    ∃ n, wX_init_121 post fw fm n 0 (fun _ => 0) (fun _ => 0) (fun _ => 0) (fun _ => 0) (fun _ => 0) (fun _ => 0) (fun _ => 0) (fun _ => 0) := by
  refine Exists.intro 5 ?_
  have K : wX_init_121 post fw fm 5 (nI 0) (fun _ => 0) (fun _ => 0) (fun _ => 0) (fun _ => 0) (fun _ => 0) (fun _ => 0) (fun _ => 0) (fun _ => 0) :=
    zr_iX (k := 0) (by decide) (zr_iX (k := 1) (by decide) (zr_iX (k := 2) (by decide) (zr_iX (k := 3) (by decide) (pk_le 4 4 (fun _ => hp) (fun z => absurd z (by omega))))))
  exact K
theorem zr_initY {post : SY → Prop} {fw : Int32} (hp : post (fw, fun _ => 0, fun _ => 0, zr_S 40, zr_S 60, fun _ => 0)) :
    ∃ n, wY_init_69 post fw n 0 (fun _ => 0) (fun _ => 0) (fun _ => 0) (fun _ => 0) (fun _ => 0) := by
  refine Exists.intro 5 ?_
  have K : wY_init_69 post fw 5 (nI 0) (fun _ => 0) (fun _ => 0) (fun _ => 0) (fun _ => 0) (fun _ => 0) :=
    zr_iY (k := 0) (by decide) (zr_iY (k := 1) (by decide) (zr_iY (k := 2) (by decide) (zr_iY (k := 3) (by decide) (pk_le 4 4 (fun _ => hp) (fun z => absurd z (by omega))))))
  exact K
theorem zr_line0 {W l : Nat} {th tl : Nat → Int32} {bi : Nat → Int64} {ps li nu mn : Nat → Int32} (h1 : th l = 0) (h2 : tl l = 0) (h3 : bi l = 0) (h4 : ps l = 0) (h5 : mn l = 0) :
    ∃ m g h, zr_Y m g l nu mn ∧ zr_T W m g l th tl bi ∧ zr_L m g h l ps li := by
  refine ⟨0, fun _ => 0, fun _ => 0, ⟨Nat.zero_le _, h5, fun i hi => absurd hi (Nat.not_lt_zero i), fun i hi => absurd hi (Nat.not_lt_zero i), Nat.zero_le _⟩, ⟨h1, h2, fun j hj => ?_⟩, ⟨h4, fun i hi => absurd hi (Nat.not_lt_zero i), fun i hi => absurd hi (Nat.not_lt_zero i)⟩⟩
  rw [h3, zr_bit_0 j hj]
  constructor
  · intro z; exact absurd z (by decide)
  · rintro ⟨_, i, hi, _⟩; exact absurd hi (Nat.not_lt_zero i)
theorem zr_R0 {W : Nat} {fm : Int64} (h1 : 4 ≤ W) (h2 : W ≤ 64) (h3 : ∀ j, j < 64 → zr_bit fm j = decide (j < W)) :
    zr_R W fm (fun _ => 0) (fun _ => 0) (fun _ => 0) (fun _ => 0) (fun _ => 0) (zr_S 60) (fun _ => 0) (fun _ => 0) (fun _ => 0) (fun _ => 0) :=
  ⟨h1, h2, h3, fun l hl => ⟨60, by decide, by decide, zr_S_at 60 hl⟩, fun _ _ _ _ _ => rfl, fun l hl => zr_line0 rfl rfl rfl rfl rfl⟩
theorem zr_init92 {W : Nat} {post : SX → Prop} (h1 : 4 ≤ W) (h2 : W ≤ 64) (hp : ∀ fm : Int64, (∀ j, j < 64 → zr_bit fm j = decide (j < W)) → post (nI W, fm, fun _ => 0, fun _ => 0, fun _ => 0, fun _ => 0, fun _ => 0, zr_S 40, zr_S 60, fun _ => 0)) :
    wX_init_92 post (nI W) 0 (fun _ => 0) (fun _ => 0) (fun _ => 0) (fun _ => 0) (fun _ => 0) (fun _ => 0) (fun _ => 0) (fun _ => 0) := by
  unfold wX_init_92
  refine pk_eq W 64 (fun z => ?_) (fun z => nm_e ?_)
  · subst z
    exact zr_initX (hp _ zr_bit_m1)
  · exact zr_initX (hp _ (zr_bit_mask W (by omega)))
theorem i_vc0 (k0 : Int32) : wpX_init (fun u => wpY_init (fun v => i_Rel 1 u v) k0) k0 := by
  unfold wpX_init wpY_init wX_init_74
  have t4 : (4 : Int32).toInt = 4 := by decide
  have t64 : (64 : Int32).toInt = 64 := by decide
  by_cases a : 4 ≤ k0
  · by_cases b : k0 ≤ 64
    · obtain ⟨W, hW, rfl⟩ := nI_of2 (x := k0) (M := 64) (n := 64) (by decide) (by rw [Int32.le_iff_toInt_le, t4] at a; rw [Int32.lt_iff_toInt_lt, show (0 : Int32).toInt = 0 from by decide]; omega) b
      have h4 : 4 ≤ W := by
        rw [Int32.le_iff_toInt_le, t4, nI_toInt (by omega)] at a
        omega
      exact br_t a (br_t b (zr_init92 h4 hW (fun fm hf => br_t a (br_t b (zr_initY (zr_mk (zr_R0 h4 hW hf)))))))
    · exact br_t a (br_f b (zr_init92 (W := 64) (by decide) (by decide) (fun fm hf => br_t a (br_f b (zr_initY (zr_mk (W := 64) (zr_R0 (by decide) (by decide) hf)))))))
  · exact br_f a (br_t (by decide) (zr_init92 (W := 4) (by decide) (by decide) (fun fm hf => br_f a (zr_initY (zr_mk (W := 4) (zr_R0 (by decide) (by decide) hf))))))
theorem i_vc_rekey {k : Nat} {u : SX} {v : SY} (I : i_Rel k u v) (hk : k + 5 ≤ 2561) (v1 : Int32) : wpX_rekey (fun r u' => wpY_rekey (fun r' v' => r' = r ∧ i_Rel (k + 5) u' v') v v1) u v1 := by
  obtain ⟨W, fm, th, tl, bi, ps, li, so, ha, ve, nu, mn, ve', rfl, rfl, R⟩ := I
  dsimp only [wpX_rekey, wpY_rekey]
  rcases zr_cases v1 (n := 4) (by decide) with hb | ⟨l, hl, rfl⟩
  · exact zr_isLine_f hb (br_t rfl (zr_bad_f hb (br_f (by decide) ⟨rfl, zr_mk R⟩)))
  · obtain ⟨m, g, h, hY, hT, hL⟩ := R.2.2.2.2.2 l hl
    have e := (zr_Ym hl hY).trans (zr_Lp hl hL).symm
    have i4 := zr_in4 hl
    have R2 : zr_R W fm (upd th (nI l).toNatClampNeg 0) (upd tl (nI l).toNatClampNeg 0) (vp_updL bi (nI l).toNatClampNeg 0) (upd ps (nI l).toNatClampNeg 0) li ha ve nu (upd mn (nI l).toNatClampNeg 0) ve' := by
      rw [zr_cl hl]
      refine ⟨R.1, R.2.1, R.2.2.1, R.2.2.2.1, R.2.2.2.2.1, fun j hj => ?_⟩
      by_cases c : j = l
      · subst c
        exact zr_line0 pk_us pk_us pk_uLs pk_us pk_us
      · obtain ⟨m', g', k', b1, b2, b3⟩ := R.2.2.2.2.2 j hj
        exact ⟨m', g', k', zr_Y_fr b1 (pk_un c) (fun i hi => rfl), zr_T_fr b2 ⟨pk_un c, pk_un c, pk_uLn c⟩, zr_L_fr b1.1 b3 (pk_un c) (fun i hi => rfl)⟩
    exact zr_isLine_t hl (br_f (by decide) (And.intro i4 (nm_e (And.intro i4 (nm_e (And.intro i4 (nm_e (And.intro i4 (nm_e (And.intro i4 (nm_e (zr_bad_t hl (br_t rfl (And.intro i4 (nm_e (And.intro i4 (nm_e ⟨e, zr_mk R2⟩)))))))))))))))))
theorem i_vc_limits {k : Nat} {u : SX} {v : SY} (I : i_Rel k u v) (hk : k + 5 ≤ 2561) (v1 : Int32) (v2 : Int32) (v3 : Int32) : wpX_limits (fun r u' => wpY_limits (fun r' v' => r' = r ∧ i_Rel (k + 5) u' v') v v1 v2 v3) u v1 v2 v3 := by
  obtain ⟨W, fm, th, tl, bi, ps, li, so, ha, ve, nu, mn, ve', rfl, rfl, R⟩ := I
  dsimp only [wpX_limits, wpY_limits]
  rcases zr_cases v1 (n := 4) (by decide) with hb | ⟨l, hl, rfl⟩
  · exact zr_isLine_f hb (br_t rfl (zr_bad_f hb (br_f (by decide) ⟨rfl, zr_mk R⟩)))
  · obtain ⟨m, g, h, hY, hT, hL⟩ := R.2.2.2.2.2 l hl
    have e := (zr_Ym hl hY).trans (zr_Lp hl hL).symm
    have i4 := zr_in4 hl
    refine zr_isLine_t hl (br_f (by decide) ?_)
    by_cases a : v3 < 1
    · exact br_t a (zr_bad_t hl (br_t rfl (br_t a ⟨rfl, zr_mk R⟩)))
    by_cases b : v3 ≤ 60
    · by_cases c : v2 < 0
      · exact br_f a (br_t b (br_t c (zr_bad_t hl (br_t rfl (br_f a (br_t b (br_t c ⟨rfl, zr_mk R⟩)))))))
      by_cases d : v2 ≤ v3
      · have R2 : zr_R W fm th tl bi ps li (upd ha (nI l).toNatClampNeg v3) ve nu mn ve' := by
          rw [zr_cl hl]
          refine ⟨R.1, R.2.1, R.2.2.1, fun j hj => ?_, R.2.2.2.2⟩
          by_cases c : j = l
          · subst c
            obtain ⟨q, q6, eq⟩ := nI_of2 (x := v3) (M := 60) (n := 60) (by decide) (zr_ge1 a) b
            refine ⟨q, ?_, q6, by rw [pk_us]; exact eq⟩
            rcases Nat.lt_or_ge 0 q with z | z
            · exact z
            · exact absurd (show nI q < 1 from nI_lt (b := 1) (by omega) (by decide)) (eq ▸ a)
          · rw [pk_un c]
            exact R.2.2.2.1 j hj
        have eh : upd ha (nI l).toNatClampNeg v3 (nI l).toNatClampNeg = v3 := pk_us
        refine br_f a (br_t b (br_f c (br_t d (And.intro i4 (nm_e (And.intro i4 (nm_e (And.intro i4 ?_))))))))
        refine br_c (fun z => zr_bad_t hl (br_t rfl (br_f a (br_t b (br_f c (br_t d (And.intro i4 (nm_e (And.intro i4 (nm_e ?_)))))))))) (fun z => zr_bad_t hl (br_t rfl (br_f a (br_t b (br_f c (br_t d (And.intro i4 (nm_e (And.intro i4 (nm_e ?_))))))))))
        · dsimp only [wpY_dead]
          exact zr_bad_t hl (br_t rfl (And.intro i4 (And.intro i4 (br_t (by rw [eh, e]; exact z) ⟨rfl, zr_mk R2⟩))))
        · dsimp only [wpY_dead]
          exact zr_bad_t hl (br_t rfl (And.intro i4 (And.intro i4 (br_f (by rw [eh, e]; exact z) ⟨rfl, zr_mk R2⟩))))
      · exact br_f a (br_t b (br_f c (br_f d (zr_bad_t hl (br_t rfl (br_f a (br_t b (br_f c (br_f d ⟨rfl, zr_mk R⟩)))))))))
    · exact br_f a (br_f b (zr_bad_t hl (br_t rfl (br_f a (br_f b ⟨rfl, zr_mk R⟩)))))
theorem i_vc_receive {k : Nat} {u : SX} {v : SY} (I : i_Rel k u v) (hk : k + 5 ≤ 2561) (v1 : Int32) (v2 : Int32) (v3 : Int32) : wpX_receive (fun r u' => wpY_receive (fun r' v' => r' = r ∧ i_Rel (k + 5) u' v') v v1 v2 v3) u v1 v2 v3 := by
  obtain ⟨W, fm, th, tl, bi, ps, li, so, ha, ve, nu, mn, ve', rfl, rfl, R⟩ := I
  dsimp only [wpX_receive]
  rcases zr_cases v1 (n := 4) (by decide) with hb | ⟨l, hl, rfl⟩
  · refine zr_isLine_f hb (br_t rfl ?_)
    dsimp only [wpY_receive]
    exact zr_bad_f hb (br_f (by decide) ⟨rfl, zr_mk R⟩)
  · refine zr_isLine_t hl (br_f (by decide) ?_)
    rcases zr_cases v2 (n := 256) (by decide) with hb | ⟨low, hlow, rfl⟩
    · refine zr_isLow_f hb (br_t rfl ?_)
      dsimp only [wpY_receive]
      refine zr_bad_t hl (br_t rfl ?_)
      rcases hb with z | z
      · exact br_t z ⟨rfl, zr_mk R⟩
      · have q := zr_big (n := 255) (by decide) z
        exact br_f q.1 (br_f q.2.2 ⟨rfl, zr_mk R⟩)
    · refine zr_isLow_t hlow (br_f (by decide) ?_)
      by_cases a : v3 = 0
      · obtain ⟨r, ⟨a0, a1, a2, a3, a4, a5, a6, a7, a8, a9⟩, v', J, hX, hV⟩ := zr_judge (so := so) R hl hlow (p := 0) (p' := v3) ⟨fun _ => a, fun _ => rfl⟩
        refine br_t a ?_
        unfold wX_receive_31
        exact hX _ (hV _ ⟨rfl, J⟩)
      · obtain ⟨r, ⟨a0, a1, a2, a3, a4, a5, a6, a7, a8, a9⟩, v', J, hX, hV⟩ := zr_judge (so := so) R hl hlow (p := 1) (p' := v3) ⟨fun z => absurd z (by decide), fun z => absurd z a⟩
        refine br_f a ?_
        unfold wX_receive_31
        exact hX _ (hV _ ⟨rfl, J⟩)
/-- LOCKSTEP of the two bursts -/
theorem zr_burst {l low n : Nat} {st : Int32} (hl : l < 4) (hn : n ≤ 40) : ∀ d k (c : Int32) (W : Nat) (fm : Int64) (th tl : Nat → Int32) (bi : Nat → Int64) (ps li so ha ve nu mn ve' : Nat → Int32), k + d = n → zr_R W fm th tl bi ps li ha ve nu mn ve' →
    ∃ (r : Int32) (u' : SX) (v' : SY), i_Rel 0 u' v' ∧
      (∀ post : Int32 → SX → Prop, post r u' → wX_burst_56 post (nI l) (nI low) st (nI n) (d + 1) c (nI k) (nI W) fm th tl bi ps li so ha ve) ∧
      (∀ post : Int32 → SY → Prop, post r v' → wY_burst_61 post (nI l) (nI low) st (nI n) (d + 1) c (nI k) (nI W) nu mn so ha ve') := by
  intro d
  induction d with
  | zero =>
    intro k c W fm th tl bi ps li so ha ve nu mn ve' hk R
    have e : k = n := by omega
    subst e
    exact ⟨c, _, _, zr_mk (so := so) R, fun post hp => br_t (nI_le (Nat.le_refl _) (by omega)) hp, fun post hp => br_t (nI_le (Nat.le_refl _) (by omega)) hp⟩
  | succ d ih =>
    intro k c W fm th tl bi ps li so ha ve nu mn ve' hk R
    have nk : ¬ nI n ≤ nI k := nI_ge (by omega) (by omega)
    obtain ⟨j, hj, ej⟩ := pk_andE (nI low + nI k * st) (m := 255) 8 (by decide)
    obtain ⟨r, u', v', J, hX, hV⟩ := zr_judge (so := so) R hl (low := j) hj (p := 1) (p' := 1) Iff.rfl
    obtain ⟨W', fm', th', tl', bi', ps', li', so', ha', ve1, nu', mn', ve1', rfl, rfl, R'⟩ := J
    by_cases a : r = 1
    · obtain ⟨r2, u2, v2, J2, hX2, hV2⟩ := ih (k + 1) (c + 1) W' fm' th' tl' bi' ps' li' so' ha' ve1 nu' mn' ve1' (by omega) R'
      refine ⟨r2, u2, v2, J2, fun post hp => br_f nk ?_, fun post hp => br_f nk ?_⟩
      · rw [ej]
        exact hX _ (br_t a (nm_e (nm_r (nI_1 k) (hX2 post hp))))
      · rw [ej]
        exact hV _ (br_t a (nm_e (nm_r (nI_1 k) (hV2 post hp))))
    · obtain ⟨r2, u2, v2, J2, hX2, hV2⟩ := ih (k + 1) c W' fm' th' tl' bi' ps' li' so' ha' ve1 nu' mn' ve1' (by omega) R'
      refine ⟨r2, u2, v2, J2, fun post hp => br_f nk ?_, fun post hp => br_f nk ?_⟩
      · rw [ej]
        exact hX _ (br_f a (nm_r (nI_1 k) (hX2 post hp)))
      · rw [ej]
        exact hV _ (br_f a (nm_r (nI_1 k) (hV2 post hp)))
end
section
theorem i_vc_burst {k : Nat} {u : SX} {v : SY} (I : i_Rel k u v) (hk : k + 5 ≤ 2561) (v1 : Int32) (v2 : Int32) (v3 : Int32) (v4 : Int32) : wpX_burst (fun r u' => wpY_burst (fun r' v' => r' = r ∧ i_Rel (k + 5) u' v') v v1 v2 v3 v4) u v1 v2 v3 v4 := by
  obtain ⟨W, fm, th, tl, bi, ps, li, so, ha, ve, nu, mn, ve', rfl, rfl, R⟩ := I
  dsimp only [wpX_burst, wpY_burst]
  rcases zr_cases v1 (n := 4) (by decide) with hb | ⟨l, hl, rfl⟩
  · exact zr_isLine_f hb (br_t rfl (zr_bad_f hb (br_f (by decide) ⟨rfl, zr_mk R⟩)))
  · refine zr_isLine_t hl (br_f (by decide) ?_)
    rcases zr_cases v2 (n := 256) (by decide) with hb | ⟨low, hlow, rfl⟩
    · refine zr_isLow_f hb (br_t rfl (zr_bad_t hl (br_t rfl ?_)))
      rcases hb with z | z
      · exact br_t z ⟨rfl, zr_mk R⟩
      · have q := zr_big (n := 255) (by decide) z
        exact br_f q.1 (br_f q.2.2 ⟨rfl, zr_mk R⟩)
    · refine zr_isLow_t hlow (br_f (by decide) ?_)
      have x0 : ¬ nI low < 0 := nI_pos (by omega)
      have x1 : nI low ≤ 255 := nI_le (a := low) (b := 255) (by omega) (by decide)
      by_cases a : v3 < (-64)
      · exact br_t a (zr_bad_t hl (br_t rfl (br_f x0 (br_t x1 (br_t a ⟨rfl, zr_mk R⟩)))))
      by_cases b : v3 ≤ 64
      · by_cases c : v4 < 1
        · exact br_f a (br_t b (br_t c (zr_bad_t hl (br_t rfl (br_f x0 (br_t x1 (br_f a (br_t b (br_t c ⟨rfl, zr_mk R⟩)))))))))
        by_cases d : v4 ≤ 40
        · obtain ⟨n, hn, rfl⟩ := nI_of2 (x := v4) (M := 40) (n := 40) (by decide) (zr_ge1 c) d
          obtain ⟨r, u', v', J, hX, hV⟩ := zr_burst (low := low) (st := v3) hl hn n 0 0 W fm th tl bi ps li so ha ve nu mn ve' (by omega) R
          exact br_f a (br_t b (br_f c (br_t d (Exists.intro (n + 1) (hX _ (zr_bad_t hl (br_t rfl (br_f x0 (br_t x1 (br_f a (br_t b (br_f c (br_t d (Exists.intro (n + 1) (hV _ ⟨rfl, J⟩)))))))))))))))
        · exact br_f a (br_t b (br_f c (br_f d (zr_bad_t hl (br_t rfl (br_f x0 (br_t x1 (br_f a (br_t b (br_f c (br_f d ⟨rfl, zr_mk R⟩)))))))))))
      · exact br_f a (br_f b (zr_bad_t hl (br_t rfl (br_f x0 (br_t x1 (br_f a (br_f b ⟨rfl, zr_mk R⟩)))))))
end
