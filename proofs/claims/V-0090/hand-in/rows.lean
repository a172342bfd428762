section
/-! rows of kit/rows/PURE-ROWS (pasted) -/
theorem pk_us {f : Nat → Int32} {k : Nat} {x : Int32} : upd f k x k = x := if_pos rfl
theorem pk_un {f : Nat → Int32} {k j : Nat} {x : Int32} (h : j ≠ k) : upd f k x j = f j := if_neg h
theorem pk_uLs {f : Nat → Int64} {k : Nat} {x : Int64} : vp_updL f k x k = x := if_pos rfl
theorem pk_uLn {f : Nat → Int64} {k j : Nat} {x : Int64} (h : j ≠ k) : vp_updL f k x j = f j := if_neg h
theorem pk_sub {a b : Nat} (h : b ≤ a) : nI a - nI b = nI (a - b) := by
  obtain ⟨c, rfl⟩ : ∃ c, a = c + b := ⟨a - b, by omega⟩
  rw [← nI_add, Int32.add_sub_cancel, Nat.add_sub_cancel]
theorem pk_m1 (n : Nat) : nI (n + 1) + (-1) = nI n := by
  rw [← nI_1, Int32.add_assoc, show (1 : Int32) + (-1) = 0 from rfl, Int32.add_zero]
theorem pk_mul (a b : Nat) : nI a * nI b = nI (a * b) := (Int32.ofNat_mul a b).symm
theorem pk_div {a d : Nat} (ha : a < 2 ^ 31) (h0 : 0 < d) (hd : d < 2 ^ 31) : nI a / nI d = nI (a / d) := by
  apply Int32.toInt_inj.mp
  rw [lg_idiv_nonneg (by rw [nI_toInt ha]; omega) (by rw [nI_toInt hd]; omega), nI_toInt ha, nI_toInt hd, nI_toInt (Nat.lt_of_le_of_lt (Nat.div_le_self a d) ha)]
  first | rfl | exact (Int.natCast_ediv _ _).symm
theorem pk_rem {a d : Nat} (ha : a < 2 ^ 31) (h0 : 0 < d) (hd : d < 2 ^ 31) : nI a - nI a / nI d * nI d = nI (a % d) := by
  rw [pk_div ha h0 hd, pk_mul, pk_sub (Nat.div_mul_le_self a d)]
  exact congrArg nI (by have := Nat.div_add_mod' a d; omega)
theorem pk_sub_toInt {a b : Nat} (ha : a < 2 ^ 30) (hb : b < 2 ^ 30) : (nI a - nI b).toInt = (a : Int) - b := by
  rw [Int32.toInt_sub, nI_toInt (by omega), nI_toInt (by omega)]
  exact Int.bmod_eq_of_le (by omega) (by omega)
theorem pk_sneg {a b : Nat} (hb : b < 2 ^ 30) (h : a < b) : nI a - nI b < 0 := by
  rw [Int32.lt_iff_toInt_lt, pk_sub_toInt (by omega) hb, show (0 : Int32).toInt = 0 from by decide]
  omega
theorem pk_ix (x : Int32) {n : Nat} (hn : n < 2 ^ 31) : x < 0 ∨ nI n ≤ x ∨ ∃ j : Nat, j < n ∧ x = nI j := by
  by_cases h : x < 0
  · exact Or.inl h
  · obtain ⟨j, hj, rfl⟩ := nI_of h
    by_cases h2 : j < n
    · exact Or.inr (Or.inr ⟨j, h2, rfl⟩)
    · exact Or.inr (Or.inl (nI_le (by omega) hj))
theorem pk_le {x y : Int32} {A B : Prop} (a b : Nat) (f : a ≤ b → A) (g : b < a → B) (hx : x = nI a := by rfl) (hy : y = nI b := by rfl) (ha : a < 2 ^ 31 := by omega) (hb : b < 2 ^ 31 := by omega) : (x ≤ y → A) ∧ (¬ x ≤ y → B) := by
  subst hx hy
  rw [nI_leI ha hb]
  exact ⟨f, fun z => g (by omega)⟩
theorem pk_lt {x y : Int32} {A B : Prop} (a b : Nat) (f : a < b → A) (g : b ≤ a → B) (hx : x = nI a := by rfl) (hy : y = nI b := by rfl) (ha : a < 2 ^ 31 := by omega) (hb : b < 2 ^ 31 := by omega) : (x < y → A) ∧ (¬ x < y → B) := by
  subst hx hy
  rw [nI_ltI ha hb]
  exact ⟨f, fun z => g (by omega)⟩
theorem pk_eq {x y : Int32} {A B : Prop} (a b : Nat) (f : a = b → A) (g : a ≠ b → B) (hx : x = nI a := by rfl) (hy : y = nI b := by rfl) (ha : a < 2 ^ 31 := by omega) (hb : b < 2 ^ 31 := by omega) : (x = y → A) ∧ (¬ x = y → B) := by
  subst hx hy
  rw [nI_eq ha hb]
  exact ⟨f, g⟩
theorem pk_in {x : Int32} (n N : Nat) (h : n < N) (hx : x = nI n := by rfl) (hN : N < 2 ^ 31 := by omega) : vp_in x N := by
  subst hx
  exact vp_in_nI h hN
theorem pk_cl {x : Int32} (n : Nat) (hx : x = nI n := by rfl) (h : n < 2 ^ 31 := by omega) : x.toNatClampNeg = n := by
  subst hx
  exact nI_clamp h
theorem pk_tn {n : Nat} (h : n < 2 ^ 32) : (nI n).toBitVec.toNat = n := Nat.mod_eq_of_lt h
theorem pk_and (x : Int32) {m : Int32} (k : Nat) (hm : m.toBitVec.toNat = 2 ^ k - 1) : x &&& m = nI (x.toBitVec.toNat % 2 ^ k) := by
  apply Int32.toBitVec_inj.mp
  apply BitVec.eq_of_toNat_eq
  rw [Int32.toBitVec_and, BitVec.toNat_and, hm, Nat.and_two_pow_sub_one_eq_mod]
  show _ = (BitVec.ofNat 32 _).toNat
  rw [BitVec.toNat_ofNat]
  exact (Nat.mod_eq_of_lt (Nat.lt_of_le_of_lt (Nat.mod_le _ _) x.toBitVec.isLt)).symm
theorem pk_andN {n : Nat} (h : n < 2 ^ 32) {m : Int32} (k : Nat) (hm : m.toBitVec.toNat = 2 ^ k - 1) : nI n &&& m = nI (n % 2 ^ k) := by
  rw [pk_and _ k hm, pk_tn h]
theorem pk_andE (x : Int32) {m : Int32} (k : Nat) (hm : m.toBitVec.toNat = 2 ^ k - 1) : ∃ j : Nat, j < 2 ^ k ∧ x &&& m = nI j := ⟨_, Nat.mod_lt _ (Nat.two_pow_pos k), pk_and x k hm⟩
theorem pk_andIn (x : Int32) {m : Int32} (k : Nat) (hm : m.toBitVec.toNat = 2 ^ k - 1) (hk : k ≤ 30) : vp_in (x &&& m) (2 ^ k) := by
  obtain ⟨j, hj, e⟩ := pk_andE x k hm
  rw [e]
  exact vp_in_nI hj (Nat.lt_of_le_of_lt (Nat.pow_le_pow_right (by decide) hk) (by decide))
theorem pk_shl (a s : Int32) (k : Nat) (hs : (s.toBitVec.smod 32).toNat = k) : (a <<< s).toBitVec.toNat = a.toBitVec.toNat * 2 ^ k % 2 ^ 32 := by
  show (a.toBitVec <<< (s.toBitVec.smod 32).toNat).toNat = _
  rw [hs, BitVec.toNat_shiftLeft, Nat.shiftLeft_eq]
theorem pk_shlN {n : Nat} (s : Int32) (k : Nat) (hs : (s.toBitVec.smod 32).toNat = k) (h : n * 2 ^ k < 2 ^ 32) : nI n <<< s = nI (n * 2 ^ k) := by
  apply Int32.toBitVec_inj.mp
  apply BitVec.eq_of_toNat_eq
  have hn : n < 2 ^ 32 := Nat.lt_of_le_of_lt (Nat.le_mul_of_pos_right n (Nat.two_pow_pos k)) h
  rw [pk_shl _ _ k hs, pk_tn hn, pk_tn h, Nat.mod_eq_of_lt h]
theorem pk_shr (a s : Int32) (k : Nat) (hs : (s.toBitVec.smod 32).toNat = k) : (a >>> s).toInt = a.toInt >>> k := by
  show (a.toBitVec.sshiftRight (s.toBitVec.smod 32).toNat).toInt = _
  rw [hs, BitVec.toInt_sshiftRight]
  rfl
theorem pk_shrN {n : Nat} (h : n < 2 ^ 31) (s : Int32) (k : Nat) (hs : (s.toBitVec.smod 32).toNat = k) : nI n >>> s = nI (n / 2 ^ k) := by
  apply Int32.toInt_inj.mp
  have h2 : n / 2 ^ k ≤ n := Nat.div_le_self _ _
  rw [pk_shr _ _ k hs, nI_toInt h, nI_toInt (by omega), Int.shiftRight_eq_div_pow]
  rfl
theorem pk_least (P : Nat → Prop) (h : ∃ k, P k) : ∃ k, P k ∧ ∀ j, j < k → ¬ P j := by
  obtain ⟨k, hk⟩ := h
  induction k using Nat.strongRecOn with
  | ind k ih =>
    by_cases e : ∃ j, j < k ∧ P j
    · obtain ⟨j, hj, pj⟩ := e
      exact ih j hj pj
    · exact ⟨k, hk, fun j hj pj => e ⟨j, hj, pj⟩⟩
end
section
/-! base: literals, stores, counting, references -/
theorem hq_i0 : (0 : Int32).toInt = 0 := by decide
theorem hq_im1 : (-1 : Int32).toInt = -1 := by decide
theorem hq_im2 : (-2 : Int32).toInt = -2 := by decide
theorem hq_i1 : (1 : Int32).toInt = 1 := by decide
theorem hq_i2 : (2 : Int32).toInt = 2 := by decide
theorem hq_i3 : (3 : Int32).toInt = 3 := by decide
theorem hq_i4 : (4 : Int32).toInt = 4 := by decide
theorem hq_i5 : (5 : Int32).toInt = 5 := by decide
theorem hq_i6 : (6 : Int32).toInt = 6 := by decide
theorem hq_i7 : (7 : Int32).toInt = 7 := by decide
theorem hq_i8 : (8 : Int32).toInt = 8 := by decide
theorem hq_i9 : (9 : Int32).toInt = 9 := by decide
theorem hq_i10 : (10 : Int32).toInt = 10 := by decide
theorem hq_i11 : (11 : Int32).toInt = 11 := by decide
theorem hq_i12 : (12 : Int32).toInt = 12 := by decide
theorem hq_i13 : (13 : Int32).toInt = 13 := by decide
theorem hq_i14 : (14 : Int32).toInt = 14 := by decide
theorem hq_i15 : (15 : Int32).toInt = 15 := by decide
theorem hq_i16 : (16 : Int32).toInt = 16 := by decide
theorem hq_i17 : (17 : Int32).toInt = 17 := by decide
theorem hq_i18 : (18 : Int32).toInt = 18 := by decide
theorem hq_i19 : (19 : Int32).toInt = 19 := by decide
theorem hq_i20 : (20 : Int32).toInt = 20 := by decide
theorem hq_i21 : (21 : Int32).toInt = 21 := by decide
theorem hq_i22 : (22 : Int32).toInt = 22 := by decide
theorem hq_i23 : (23 : Int32).toInt = 23 := by decide
theorem hq_i24 : (24 : Int32).toInt = 24 := by decide
theorem hq_inj {x y : Int32} (h : x.toInt = y.toInt) : x = y := Int32.toInt_inj.mp h
theorem hq_ne {x y : Int32} (h : x.toInt ≠ y.toInt) : x ≠ y := fun e => h (congrArg Int32.toInt e)
theorem hq_nn {x : Int32} (h : 0 ≤ x.toInt) : ∃ n : Nat, n < 2 ^ 31 ∧ x = nI n ∧ (n : Int) = x.toInt := by
  have hx : ¬ x < 0 := by rw [Int32.lt_iff_toInt_lt, hq_i0]; omega
  obtain ⟨j, hj, e⟩ := nI_of hx
  exact ⟨j, hj, e, by rw [e, nI_toInt hj]⟩
theorem hq_nle {x : Int32} {N : Nat} (h : 0 ≤ x.toInt) (h2 : x.toInt ≤ N) : ∃ n : Nat, n ≤ N ∧ x = nI n := by
  obtain ⟨n, _, e, f⟩ := hq_nn h
  exact ⟨n, by omega, e⟩
theorem hq_lit (x : Int32) (h0 : 0 ≤ x.toInt) {N : Nat} (h : x.toInt ≤ N) (hN : N < 2 ^ 31) : ∃ n : Nat, n ≤ N ∧ x = nI n := hq_nle h0 h
theorem hq_m1n {n : Nat} (h : n < 2 ^ 31) : (-1 : Int32) ≠ nI n := hq_ne (by rw [hq_im1, nI_toInt h]; omega)
theorem hq_m2n {n : Nat} (h : n < 2 ^ 31) : (-2 : Int32) ≠ nI n := hq_ne (by rw [hq_im2, nI_toInt h]; omega)
theorem hq_us {f : Nat → Int32} {i : Nat} : upd f i (f i) = f := funext fun j => by
  by_cases h : j = i
  · rw [h, pk_us]
  · rw [pk_un h]
theorem hq_us' {f : Nat → Int32} {i : Nat} {x : Int32} (h : f i = x) : upd f i x = f := by rw [← h, hq_us]
theorem hq_uu {f : Nat → Int32} {i : Nat} {x y : Int32} : upd (upd f i x) i y = upd f i y := funext fun j => by
  by_cases h : j = i
  · rw [h, pk_us, pk_us]
  · rw [pk_un h, pk_un h, pk_un h]
/-- field f of operation i -/
def hq_f (ops : Nat → Int32) (i f : Nat) : Int32 := ops (7 * i + f)
theorem hq_fs {ops : Nat → Int32} {i f : Nat} {x : Int32} : hq_f (upd ops (7 * i + f) x) i f = x := pk_us
theorem hq_fn {ops : Nat → Int32} {i f j g : Nat} {x : Int32} (hf : f < 7) (hg : g < 7) (h : j ≠ i ∨ g ≠ f) : hq_f (upd ops (7 * i + f) x) j g = hq_f ops j g := pk_un (by omega)
/-- a natural function with one place changed -/
def hq_un (f : Nat → Nat) (i x : Nat) : Nat → Nat := fun j => if j = i then x else f j
theorem hq_un_s {f : Nat → Nat} {i x : Nat} : hq_un f i x i = x := if_pos rfl
theorem hq_un_n {f : Nat → Nat} {i x j : Nat} (h : j ≠ i) : hq_un f i x j = f j := if_neg h
def hq_ul (f : Nat → List Nat) (i : Nat) (x : List Nat) : Nat → List Nat := fun j => if j = i then x else f j
theorem hq_ul_s {f : Nat → List Nat} {i : Nat} {x : List Nat} : hq_ul f i x i = x := if_pos rfl
theorem hq_ul_n {f : Nat → List Nat} {i j : Nat} {x : List Nat} (h : j ≠ i) : hq_ul f i x j = f j := if_neg h
/-- the snapshot of t cleared -/
def hq_clr (f : Nat → Int32) (t : Nat) : Nat → Int32 := fun i => if 8 * t ≤ i ∧ i < 8 * t + 8 then -2 else f i
theorem hq_clr_in {f : Nat → Int32} {t i : Nat} (h : 8 * t ≤ i) (h2 : i < 8 * t + 8) : hq_clr f t i = -2 := if_pos ⟨h, h2⟩
theorem hq_clr_out {f : Nat → Int32} {t i : Nat} (h : ¬ (8 * t ≤ i ∧ i < 8 * t + 8)) : hq_clr f t i = f i := if_neg h
/-- how many numbers below N have p -/
def hq_cn (p : Nat → Bool) : Nat → Nat
  | 0 => 0
  | n + 1 => hq_cn p n + (if p n = true then 1 else 0)
theorem hq_cn_le (p : Nat → Bool) (N : Nat) : hq_cn p N ≤ N := by
  induction N with
  | zero => exact Nat.le_refl 0
  | succ n ih => simp only [hq_cn]; split <;> omega
theorem hq_cn_congr {p q : Nat → Bool} {N : Nat} (h : ∀ i, i < N → p i = q i) : hq_cn p N = hq_cn q N := by
  induction N with
  | zero => rfl
  | succ n ih =>
    simp only [hq_cn]
    rw [ih (fun i hi => h i (by omega)), h n (by omega)]
theorem hq_cn_mono {p q : Nat → Bool} {N : Nat} (h : ∀ i, i < N → p i = true → q i = true) : hq_cn p N ≤ hq_cn q N := by
  induction N with
  | zero => exact Nat.le_refl 0
  | succ n ih =>
    have e := ih (fun i hi => h i (by omega))
    have e2 := h n (by omega)
    simp only [hq_cn]
    by_cases a : p n = true
    · rw [if_pos a, if_pos (e2 a)]; omega
    · rw [if_neg a]; split <;> omega
theorem hq_cn_flip {p q : Nat → Bool} {N k : Nat} (hk : k < N) (hp : p k = false) (hq : q k = true) (h : ∀ i, i < N → i ≠ k → q i = p i) : hq_cn q N = hq_cn p N + 1 := by
  induction N with
  | zero => omega
  | succ n ih =>
    simp only [hq_cn]
    by_cases e : k = n
    · subst e
      have e1 : hq_cn q k = hq_cn p k := hq_cn_congr fun i hi => h i (by omega) (by omega)
      rw [e1, if_pos hq, hp, if_neg (by decide)]
    · have e1 := ih (by omega) (fun i hi hn => h i (by omega) hn)
      rw [e1, h n (by omega) (by omega)]
      omega
theorem hq_cn_lt {p q : Nat → Bool} {N k : Nat} (hk : k < N) (hp : p k = false) (hq : q k = true) (h : ∀ i, i < N → p i = true → q i = true) : hq_cn p N + 1 ≤ hq_cn q N := by
  have e : hq_cn (fun i => if i = k then true else p i) N = hq_cn p N + 1 :=
    hq_cn_flip hk hp (if_pos rfl) (fun i _ hn => if_neg hn)
  rw [← e]
  apply hq_cn_mono
  intro i hi hpi
  by_cases a : i = k
  · rw [a]; exact hq
  · exact h i hi (by rw [if_neg a] at hpi; exact hpi)
theorem hq_cn_pos {p : Nat → Bool} {N k : Nat} (hk : k < N) (hp : p k = true) : 1 ≤ hq_cn p N := by
  induction N with
  | zero => omega
  | succ n ih =>
    simp only [hq_cn]
    by_cases e : k = n
    · subst e; rw [if_pos hp]; omega
    · have := ih (by omega); omega
theorem hq_cn_ex {p : Nat → Bool} {N : Nat} (h : 1 ≤ hq_cn p N) : ∃ k, k < N ∧ p k = true := by
  induction N with
  | zero => simp [hq_cn] at h
  | succ n ih =>
    by_cases e : p n = true
    · exact ⟨n, by omega, e⟩
    · simp only [hq_cn, if_neg e] at h
      obtain ⟨k, hk, hp⟩ := ih h
      exact ⟨k, by omega, hp⟩
theorem hq_cn_0 {p : Nat → Bool} {N : Nat} (h : ∀ i, i < N → p i = false) : hq_cn p N = 0 := by
  induction N with
  | zero => rfl
  | succ n ih =>
    simp only [hq_cn]
    rw [ih (fun i hi => h i (by omega)), h n (by omega)]
    rfl
theorem hq_cn_filter (p : Nat → Bool) (N : Nat) : ((List.range N).filter p).length = hq_cn p N := by
  induction N with
  | zero => rfl
  | succ n ih =>
    rw [List.range_succ, List.filter_append, List.length_append, ih]
    simp only [hq_cn, List.filter_cons, List.filter_nil]
    split <;> rfl
theorem hq_cn_list {p : Nat → Bool} {N : Nat} {l : List Nat} (hn : l.Nodup) (h : ∀ i, i ∈ l ↔ i < N ∧ p i = true) : l.length = hq_cn p N := by
  rw [← hq_cn_filter]
  apply List.Perm.length_eq
  rw [List.perm_ext_iff_of_nodup hn (List.Pairwise.filter p List.nodup_range)]
  intro i
  rw [h i, List.mem_filter, List.mem_range]
/-- the reference of a node number: itself if negative -/
def hq_rf (k : Nat → Nat) (x : Int32) : Int32 := if 0 ≤ x.toInt then nI (16 * x.toInt.toNat + k x.toInt.toNat) else x
theorem hq_rf_n {k : Nat → Nat} {n : Nat} (h : n < 2 ^ 31) : hq_rf k (nI n) = nI (16 * n + k n) := by
  unfold hq_rf
  rw [nI_toInt h, if_pos (by omega), Int.toNat_natCast]
theorem hq_rf_neg {k : Nat → Nat} {x : Int32} (h : x.toInt < 0) : hq_rf k x = x := if_neg (by omega)
theorem hq_rf_m1 {k : Nat → Nat} : hq_rf k (-1) = -1 := hq_rf_neg (by decide)
theorem hq_rf_m2 {k : Nat → Nat} : hq_rf k (-2) = -2 := hq_rf_neg (by decide)
theorem hq_rf_inj {k : Nat → Nat} {L : Nat} (hL : L ≤ 64) (hk : ∀ n, n ≤ L → k n < 16) {x y : Int32} (hx : x.toInt ≤ L) (hy : y.toInt ≤ L) : hq_rf k x = hq_rf k y ↔ x = y := by
  refine ⟨fun e => ?_, fun e => by rw [e]⟩
  by_cases h1 : 0 ≤ x.toInt
  · obtain ⟨n, hn, rfl⟩ := hq_nle h1 hx
    have := hk n hn
    rw [hq_rf_n (by omega)] at e
    by_cases h2 : 0 ≤ y.toInt
    · obtain ⟨n', hn', rfl⟩ := hq_nle h2 hy
      have := hk n' hn'
      rw [hq_rf_n (by omega), nI_eq (by omega) (by omega)] at e
      rw [show n = n' by omega]
    · rw [hq_rf_neg (by omega)] at e
      rw [← e, nI_toInt (by omega)] at h2
      omega
  · rw [hq_rf_neg (by omega)] at e
    by_cases h2 : 0 ≤ y.toInt
    · obtain ⟨n', hn', rfl⟩ := hq_nle h2 hy
      have := hk n' hn'
      rw [hq_rf_n (by omega)] at e
      rw [e, nI_toInt (by omega)] at h1
      omega
    · rw [hq_rf_neg (by omega)] at e
      exact e
theorem hq_rf_k {k k' : Nat → Nat} {L : Nat} (h : ∀ n, n ≤ L → k' n = k n) {x : Int32} (hx : x.toInt ≤ L) : hq_rf k' x = hq_rf k x := by
  unfold hq_rf
  split
  · rw [h _ (by omega)]
  · rfl
theorem hq_rf_m1_iff {k : Nat → Nat} {L : Nat} (hL : L ≤ 64) (hk : ∀ n, n ≤ L → k n < 16) {x : Int32} (hx : x.toInt ≤ L) : hq_rf k x = -1 ↔ x = -1 := by
  have := hq_rf_inj hL hk hx (y := -1) (by rw [hq_im1]; omega)
  rw [hq_rf_m1] at this
  exact this
theorem hq_and15 {n d : Nat} (hn : n ≤ 64) (hd : d < 16) : nI (16 * n + d) &&& 15 = nI d := by
  rw [pk_andN (by omega) 4 (by decide)]
  exact congrArg nI (by omega)
theorem hq_shr4 {n d : Nat} (hn : n ≤ 64) (hd : d < 16) : nI (16 * n + d) >>> ((4 : Int32) &&& 31) = nI n := by
  rw [pk_shrN (by omega) _ 4 (by decide)]
  exact congrArg nI (by omega)
theorem hq_nI_or {n d : Nat} (hn : n ≤ 64) (hd : d < 16) : nI (16 * n) ||| nI d = nI (16 * n + d) := by
  apply Int32.toBitVec_inj.mp
  apply BitVec.eq_of_toNat_eq
  rw [Int32.toBitVec_or, BitVec.toNat_or, pk_tn (by omega), pk_tn (by omega), pk_tn (by omega)]
  have := Nat.shiftLeft_add_eq_or_of_lt (i := 4) (b := d) (by omega) n
  rw [Nat.shiftLeft_eq] at this
  rw [show 16 * n = n * 2 ^ 4 by omega, ← this]
theorem hq_mk {n d : Nat} (hn : n ≤ 64) (hd : d < 16) : (nI n <<< ((4 : Int32) &&& 31)) ||| nI d = nI (16 * n + d) := by
  rw [pk_shlN _ 4 (by decide) (by omega), show n * 2 ^ 4 = 16 * n by omega, hq_nI_or hn hd]
theorem hq_m2 (n : Nat) : (2 : Int32) * nI n = nI (2 * n) := pk_mul 2 n
theorem hq_m7 (n : Nat) : (7 : Int32) * nI n = nI (7 * n) := pk_mul 7 n
theorem hq_m8 (n : Nat) : (8 : Int32) * nI n = nI (8 * n) := pk_mul 8 n
theorem hq_m16 (n : Nat) : (16 : Int32) * nI n = nI (16 * n) := pk_mul 16 n
theorem hq_a0 (n : Nat) : nI n + 0 = nI (n + 0) := nI_add n 0
theorem hq_a1 (n : Nat) : nI n + 1 = nI (n + 1) := nI_add n 1
theorem hq_a2 (n : Nat) : nI n + 2 = nI (n + 2) := nI_add n 2
theorem hq_a3 (n : Nat) : nI n + 3 = nI (n + 3) := nI_add n 3
theorem hq_a4 (n : Nat) : nI n + 4 = nI (n + 4) := nI_add n 4
theorem hq_a5 (n : Nat) : nI n + 5 = nI (n + 5) := nI_add n 5
theorem hq_a6 (n : Nat) : nI n + 6 = nI (n + 6) := nI_add n 6
theorem hq_inT {n N : Nat} (h : n < N) (hN : N < 2 ^ 31) : vp_in (nI n) N = True := eq_true (vp_in_nI h hN)
theorem hq_all4 {P : Nat → Prop} {t : Nat} (h : ∀ s, s < 4 → s ≠ t → P s) (ht : P t) : ∀ s, s < 4 → P s := fun s hs => by
  by_cases e : s = t
  · rw [e]; exact ht
  · exact h s hs e
theorem hq_ph {x : Int32} (h0 : 0 ≤ x.toInt) (h : x.toInt ≤ 23) : x = 0 ∨ x = 1 ∨ x = 2 ∨ x = 3 ∨ x = 4 ∨ x = 5 ∨ x = 6 ∨ x = 7 ∨ x = 8 ∨ x = 9 ∨ x = 10 ∨ x = 11 ∨ x = 12 ∨ x = 13 ∨ x = 14 ∨ x = 15 ∨ x = 16 ∨ x = 17 ∨ x = 18 ∨ x = 19 ∨ x = 20 ∨ x = 21 ∨ x = 22 ∨ x = 23 := by
  obtain ⟨n, hn, rfl⟩ := hq_nle (N := 23) h0 h
  have : n = 0 ∨ n = 1 ∨ n = 2 ∨ n = 3 ∨ n = 4 ∨ n = 5 ∨ n = 6 ∨ n = 7 ∨ n = 8 ∨ n = 9 ∨ n = 10 ∨ n = 11 ∨ n = 12 ∨ n = 13 ∨ n = 14 ∨ n = 15 ∨ n = 16 ∨ n = 17 ∨ n = 18 ∨ n = 19 ∨ n = 20 ∨ n = 21 ∨ n = 22 ∨ n = 23 := by omega
  rcases this with rfl | rfl | rfl | rfl | rfl | rfl | rfl | rfl | rfl | rfl | rfl | rfl | rfl | rfl | rfl | rfl | rfl | rfl | rfl | rfl | rfl | rfl | rfl | rfl <;> decide
end
section
/-! the relation's groups -/
def hq_sc (H T L tm cnt lim thr cel : Nat) : Prop := H ≤ T ∧ T ≤ L ∧ L ≤ 64 ∧ cnt ≤ lim ∧ lim ≤ 64 ∧ 4 ≤ lim ∧ tm ≤ 1000 ∧ cel ≤ 16 ∧ 2 ≤ cel ∧ 1 ≤ thr ∧ thr ≤ 6
/-- one thread's locals at its phase -/
def hq_LO (L H T : Nat) (p a b c m s0 s1 : Int) : Prop :=
  (0 ≤ p ∧ p ≤ 24) ∧ (-1 ≤ a ∧ a ≤ L) ∧ (-1 ≤ b ∧ b ≤ L) ∧ (-1 ≤ c ∧ c ≤ L) ∧ (-1 ≤ s0 ∧ s0 ≤ L) ∧ (-1 ≤ s1 ∧ s1 ≤ L) ∧
  (4 ≤ p → p ≤ 10 → 0 ≤ a ∧ a ≤ T) ∧ (12 ≤ p → p ≤ 21 → 0 ≤ a ∧ a ≤ H) ∧
  (5 ≤ p → p ≤ 10 → s0 = a) ∧ (13 ≤ p → p ≤ 20 → s0 = a) ∧
  (7 ≤ p → p ≤ 9 → c = -1 ∨ c = a + 1) ∧ (p = 8 → c = a + 1) ∧ (p = 10 → a + 1 ≤ L) ∧
  (15 ≤ p → p ≤ 20 → a ≤ b ∧ b ≤ T) ∧ (16 ≤ p → p ≤ 20 → 1 ≤ m ∧ (c = -1 ∨ c = a + 1)) ∧ (18 ≤ p → p ≤ 20 → c = a + 1) ∧
  (17 ≤ p → p ≤ 20 → s1 = c) ∧ (p = 18 → a = b) ∧ (19 ≤ p → p ≤ 20 → a < b)
def hq_lo (H T L : Nat) (ph a b c m s0 s1 : Nat → Int32) : Prop := ∀ t, t < 4 → hq_LO L H T (ph t).toInt (a t).toInt (b t).toInt (c t).toInt (m t).toInt (s0 t).toInt (s1 t).toInt
def hq_RE (N : Nat) (k : Nat → Nat) (R A : Nat → Int32) : Prop := ∀ i, i < N → R i = hq_rf k (A i)
def hq_re (k : Nat → Nat) (L : Nat) (hz rA rB rC sR a b c s0 s1 sp : Nat → Int32) : Prop :=
  (∀ n, n ≤ L → k n < 16) ∧ hq_RE 4 k rA a ∧ hq_RE 4 k rB b ∧ hq_RE 4 k rC c ∧ (∀ i, i < 4 → hz (2 * i) = hq_rf k (s0 i)) ∧ (∀ i, i < 4 → hz (2 * i + 1) = hq_rf k (s1 i)) ∧
  hq_RE 32 k sR sp ∧ (∀ i, i < 32 → -2 ≤ (sp i).toInt ∧ (sp i).toInt ≤ L)
/-- node n is in a cell: linked, removed or retired -/
def hq_hl (H L : Nat) (fa : Nat → Int32) (n : Nat) : Bool := decide (n ≤ L ∧ (H ≤ n ∨ fa n = 2 ∨ fa n = 3))
theorem hq_hl_iff {H L : Nat} {fa : Nat → Int32} {n : Nat} : hq_hl H L fa n = true ↔ n ≤ L ∧ (H ≤ n ∨ fa n = 2 ∨ fa n = 3) := decide_eq_true_iff
/-- the value of node n -/
def hq_vl (ops lb : Nat → Int32) (n : Nat) : Int32 := hq_f ops (lb n).toNatClampNeg 2
def hq_hp (k : Nat → Nat) (H L : Nat) (cN cX cV cS cO ops lb fa ow : Nat → Int32) : Prop :=
  (∀ n, hq_hl H L fa n = true → cN (k n) = nI n ∧ cX (k n) = (if n < L then hq_rf k (nI (n + 1)) else -1) ∧ (n < H → cS (k n) = fa n ∧ cO (k n) = ow n) ∧ (1 ≤ n → cV (k n) = hq_vl ops lb n)) ∧
  (∀ d, d < 16 → cN d = -1 ∨ ∃ n, hq_hl H L fa n = true ∧ k n = d) ∧
  (∀ n, n < H → fa n = 2 ∨ fa n = 3 ∨ fa n = 4)
def hq_lb (L cnt : Nat) (ops lb : Nat → Int32) : Prop := ∀ n, 1 ≤ n → n ≤ L → ∃ o, o < cnt ∧ lb n = nI o ∧ hq_f ops o 0 = 1 ∧ hq_f ops o 5 ≠ 0
def hq_fr (fc : Nat) (cN fs : Nat → Int32) : Prop := (∀ i, i < fc → ∃ d, d < 16 ∧ fs i = nI d ∧ cN d = -1) ∧ (∀ i j, i < fc → j < fc → fs i = fs j → i = j)
/-- thread t has a node of its own, not yet linked -/
def hq_pv (ph : Nat → Int32) (t : Nat) : Bool := decide (3 ≤ (ph t).toInt ∧ (ph t).toInt ≤ 9)
theorem hq_pv_iff {ph : Nat → Int32} {t : Nat} : hq_pv ph t = true ↔ 3 ≤ (ph t).toInt ∧ (ph t).toInt ≤ 9 := decide_eq_true_iff
def hq_pr (fc : Nat) (cN cX cV fs ph oo pc ops : Nat → Int32) : Prop :=
  (∀ t, t < 4 → hq_pv ph t = true → ∃ d, d < 16 ∧ pc t = nI d ∧ cN d = -1 ∧ cX d = -1 ∧ cV d = hq_f ops (oo t).toNatClampNeg 2 ∧ (∀ i, i < fc → fs i ≠ nI d)) ∧
  (∀ s t, s < 4 → t < 4 → hq_pv ph s = true → hq_pv ph t = true → pc s = pc t → s = t)
def hq_ct (H L fc cel : Nat) (ph fa : Nat → Int32) : Prop := fc + hq_cn (hq_hl H L fa) 65 + hq_cn (hq_pv ph) 4 = cel
/-- node n is retired by t -/
def hq_rb (H : Nat) (fa ow : Nat → Int32) (t n : Nat) : Bool := decide (n < H ∧ fa n = 3 ∧ ow n = nI t)
theorem hq_rb_iff {H : Nat} {fa ow : Nat → Int32} {t n : Nat} : hq_rb H fa ow t n = true ↔ n < H ∧ fa n = 3 ∧ ow n = nI t := decide_eq_true_iff
def hq_RT (k : Nat → Nat) (l : List Nat) (H : Nat) (rt rn fa ow : Nat → Int32) (t : Nat) : Prop :=
  l.Nodup ∧ (∀ n, n ∈ l ↔ hq_rb H fa ow t n = true) ∧ rn t = nI l.length ∧ (∀ i n, l[i]? = some n → rt (16 * t + i) = nI (k n))
def hq_rt (k : Nat → Nat) (ls : Nat → List Nat) (H : Nat) (rt rn fa ow : Nat → Int32) : Prop := ∀ t, t < 4 → hq_RT k (ls t) H rt rn fa ow t
/-- node n, in hazard slot s, is safe from every scan under way -/
def hq_PR (H L : Nat) (sC sp fa ow : Nat → Int32) (s n : Nat) : Prop :=
  hq_hl H L fa n = true ∧ (n < H → fa n = 3 → ∀ o, o < 4 → ow n = nI o → (s : Int) < (sC o).toInt → sp (8 * o + s) = nI n)
def hq_hz (H L : Nat) (ph sC a c sp fa ow : Nat → Int32) : Prop := ∀ t, t < 4 →
  (((6 ≤ (ph t).toInt ∧ (ph t).toInt ≤ 9) ∨ (14 ≤ (ph t).toInt ∧ (ph t).toInt ≤ 15)) → ∀ n, n ≤ L → a t = nI n → hq_PR H L sC sp fa ow (2 * t) n) ∧
  ((ph t).toInt = 19 → ∀ n, n ≤ L → c t = nI n → hq_PR H L sC sp fa ow (2 * t + 1) n)
def hq_SN (p s : Int) : Prop := 0 ≤ s ∧ s ≤ 8 ∧ (p = 22 → s < 8) ∧ (p = 23 → s = 8) ∧ (p ≠ 22 → p ≠ 23 → s = 0)
def hq_sn (ph sC sp : Nat → Int32) : Prop := ∀ t, t < 4 → hq_SN (ph t).toInt (sC t).toInt ∧ ∀ j : Nat, j < 8 → (sp (8 * t + j) = -2 ↔ (sC t).toInt ≤ (j : Int))
/-- the pending operation of t at phase p -/
def hq_OB (t : Nat) (p : Int) (kd th vl rs ln : Int32) : Prop :=
  th = nI t ∧ rs = 0 ∧ (kd = 1 ∨ kd = 2 ∨ kd = 3) ∧ (p ≤ 10 → kd = 1) ∧ (11 ≤ p → p ≤ 21 → kd = 2) ∧ (p ≤ 9 → ln = 0) ∧ (11 ≤ p → p ≤ 20 → ln = 0 ∧ vl = -1) ∧ (22 ≤ p → p ≤ 23 → kd = 1 → ln = 0)
def hq_op (cnt : Nat) (ph oo ops : Nat → Int32) : Prop :=
  (∀ t, t < 4 → (ph t).toInt ≠ 0 → ∃ o, o < cnt ∧ oo t = nI o ∧ hq_OB t (ph t).toInt (hq_f ops o 0) (hq_f ops o 1) (hq_f ops o 2) (hq_f ops o 3) (hq_f ops o 5)) ∧
  (∀ i, i < cnt → hq_f ops i 3 = 0 → ∃ t, t < 4 ∧ hq_f ops i 1 = nI t ∧ (ph t).toInt ≠ 0 ∧ oo t = nI i) ∧
  (∀ i, cnt ≤ i → i < 64 → hq_f ops i 5 = 0 ∧ hq_f ops i 6 = 0) ∧
  (∀ i, i < cnt → hq_f ops i 0 = 1 → 0 ≤ (hq_f ops i 2).toInt)
/-- the order of linearised operations -/
def hq_li (ll : List Nat) (cnt : Nat) (ops lo : Nat → Int32) : Prop :=
  (∀ j i, ll[j]? = some i → lo j = nI i) ∧ ll.Pairwise (fun i j => (hq_f ops i 5).toInt < (hq_f ops j 5).toInt) ∧ (∀ i, i ∈ ll ↔ i < cnt ∧ hq_f ops i 5 ≠ 0)
def hq_ln (ll : List Nat) (tm cnt : Nat) (m ops lo : Nat → Int32) : Prop :=
  (∀ i, i < cnt → 0 ≤ (hq_f ops i 5).toInt ∧ (hq_f ops i 5).toInt ≤ tm) ∧
  (∀ i j, i < cnt → j < cnt → hq_f ops i 5 ≠ 0 → hq_f ops i 5 = hq_f ops j 5 → i = j) ∧
  (∀ t, t < 4 → 0 ≤ (m t).toInt ∧ (m t).toInt ≤ tm) ∧
  (∀ t, t < 4 → m t ≠ 0 → (∀ i, i < cnt → hq_f ops i 5 ≠ m t) ∧ (∀ s, s < 4 → s ≠ t → m s ≠ m t)) ∧
  hq_li ll cnt ops lo
def hq_ce (ops : Nat → Int32) (i : Nat) : Bool := decide (hq_f ops i 0 = 1 ∧ hq_f ops i 5 ≠ 0)
def hq_cd (ops : Nat → Int32) (i : Nat) : Bool := decide (hq_f ops i 0 = 2 ∧ hq_f ops i 2 ≠ -1 ∧ hq_f ops i 5 ≠ 0)
theorem hq_ce_iff {ops : Nat → Int32} {i : Nat} : hq_ce ops i = true ↔ hq_f ops i 0 = 1 ∧ hq_f ops i 5 ≠ 0 := decide_eq_true_iff
theorem hq_cd_iff {ops : Nat → Int32} {i : Nat} : hq_cd ops i = true ↔ hq_f ops i 0 = 2 ∧ hq_f ops i 2 ≠ -1 ∧ hq_f ops i 5 ≠ 0 := decide_eq_true_iff
def hq_ec (H L cnt : Nat) (ops : Nat → Int32) : Prop := hq_cn (hq_ce ops) cnt = L ∧ hq_cn (hq_cd ops) cnt = H
def hq_rm (H : Nat) (ph a fa ow : Nat → Int32) : Prop := ∀ t, t < 4 → (ph t).toInt = 21 → ∀ n, n ≤ 64 → a t = nI n → n < H ∧ fa n = 2 ∧ ow n = nI t
def hq_vr (ph c vr ops lb : Nat → Int32) : Prop := ∀ t, t < 4 → (ph t).toInt = 20 → ∀ n, n ≤ 64 → c t = nI n → vr t = hq_vl ops lb n
def hq_RR (k : Nat → Nat) (ls : Nat → List Nat) (ll : List Nat) (H T L tm cnt fc lim thr cel : Nat) (cN cX cV cS cO fs hz ph oo rA rB rC m vr pc sR sC rt rn ops lo a b c s0 s1 sp lb fa ow : Nat → Int32) : Prop :=
  hq_sc H T L tm cnt lim thr cel ∧ hq_lo H T L ph a b c m s0 s1 ∧ hq_re k L hz rA rB rC sR a b c s0 s1 sp ∧ hq_hp k H L cN cX cV cS cO ops lb fa ow ∧
  hq_lb L cnt ops lb ∧ hq_fr fc cN fs ∧ hq_pr fc cN cX cV fs ph oo pc ops ∧ hq_ct H L fc cel ph fa ∧
  hq_rt k ls H rt rn fa ow ∧ hq_hz H L ph sC a c sp fa ow ∧ hq_sn ph sC sp ∧ hq_op cnt ph oo ops ∧
  hq_ln ll tm cnt m ops lo ∧ hq_ec H L cnt ops ∧ hq_rm H ph a fa ow ∧ hq_vr ph c vr ops lb
/-- sizes by time -/
def hq_we (ops : Nat → Int32) (w i : Nat) : Bool := decide (hq_f ops i 0 = 1 ∧ 1 ≤ (hq_f ops i 5).toInt ∧ (hq_f ops i 5).toInt ≤ w)
def hq_wd (ops : Nat → Int32) (w i : Nat) : Bool := decide (hq_f ops i 0 = 2 ∧ hq_f ops i 2 ≠ -1 ∧ 1 ≤ (hq_f ops i 5).toInt ∧ (hq_f ops i 5).toInt ≤ w)
def hq_sz (tm cnt : Nat) (ops sz : Nat → Int32) : Prop := ∀ w, w ≤ tm → sz w = nI (hq_cn (hq_we ops w) cnt) - nI (hq_cn (hq_wd ops w) cnt)
def hq_ok (ph : Nat → Int32) : Prop := ∀ t, t < 4 → (ph t).toInt ≤ 23
end
section
/-! moves of the relation: the small ones -/
theorem hq_LO_mono {L H T L' H' T' : Nat} {p a b c m s0 s1 : Int} (h : hq_LO L H T p a b c m s0 s1) (hL : L ≤ L') (hH : H ≤ H') (hT : T ≤ T') : hq_LO L' H' T' p a b c m s0 s1 := by
  obtain ⟨h0, h1, h2, h3, h4, h5, h6, h7, h8, h9, h10, h11, h12, h13, h14, h15, h16, h17, h18⟩ := h
  exact ⟨h0, ⟨h1.1, by omega⟩, ⟨h2.1, by omega⟩, ⟨h3.1, by omega⟩, ⟨h4.1, by omega⟩, ⟨h5.1, by omega⟩, fun z1 z2 => ⟨(h6 z1 z2).1, Int.le_trans (h6 z1 z2).2 (by omega)⟩, fun z1 z2 => ⟨(h7 z1 z2).1, Int.le_trans (h7 z1 z2).2 (by omega)⟩,
    h8, h9, h10, h11, fun z => Int.le_trans (h12 z) (by omega), fun z1 z2 => ⟨(h13 z1 z2).1, Int.le_trans (h13 z1 z2).2 (by omega)⟩, h14, h15, h16, h17, h18⟩
theorem hq_LO_rg {L H T : Nat} {p a b c m s0 s1 : Int} (h : hq_LO L H T p a b c m s0 s1) : (-1 ≤ a ∧ a ≤ L) ∧ (-1 ≤ b ∧ b ≤ L) ∧ (-1 ≤ c ∧ c ≤ L) ∧ (-1 ≤ s0 ∧ s0 ≤ L) ∧ (-1 ≤ s1 ∧ s1 ≤ L) := by
  obtain ⟨h0, h1, h2, h3, h4, h5, _⟩ := h
  exact ⟨h1, h2, h3, h4, h5⟩
/-- at a phase that asks nothing -/
theorem hq_LO_0 {L H T : Nat} {p a b c m s0 s1 : Int} (hp : p = 0 ∨ p = 1 ∨ p = 2 ∨ p = 3 ∨ p = 11 ∨ p = 22 ∨ p = 23 ∨ p = 24) (h : (-1 ≤ a ∧ a ≤ L) ∧ (-1 ≤ b ∧ b ≤ L) ∧ (-1 ≤ c ∧ c ≤ L) ∧ (-1 ≤ s0 ∧ s0 ≤ L) ∧ (-1 ≤ s1 ∧ s1 ≤ L)) : hq_LO L H T p a b c m s0 s1 := by
  obtain ⟨h1, h2, h3, h4, h5⟩ := h
  exact ⟨by omega, h1, h2, h3, h4, h5, fun _ _ => by omega, fun _ _ => by omega, fun _ _ => by omega, fun _ _ => by omega, fun _ _ => by omega, fun _ => by omega, fun _ => by omega, fun _ _ => by omega, fun _ _ => by omega, fun _ _ => by omega, fun _ _ => by omega, fun _ => by omega, fun _ _ => by omega⟩
section
variable {k : Nat → Nat} {ls : Nat → List Nat} {ll : List Nat} {H T L tm cnt fc lim thr cel : Nat} {cN cX cV cS cO fs hz ph oo rA rB rC m vr pc sR sC rt rn ops lo a b c s0 s1 sp lb fa ow : Nat → Int32} {t : Nat} {x : Int32}
theorem hm_tick (R : hq_RR k ls ll H T L tm cnt fc lim thr cel cN cX cV cS cO fs hz ph oo rA rB rC m vr pc sR sC rt rn ops lo a b c s0 s1 sp lb fa ow) (h : tm + 1 ≤ 1000) : hq_RR k ls ll H T L (tm + 1) cnt fc lim thr cel cN cX cV cS cO fs hz ph oo rA rB rC m vr pc sR sC rt rn ops lo a b c s0 s1 sp lb fa ow := by
  obtain ⟨gSc, gLo, gRe, gHp, gLb, gFr, gPr, gCt, gRt, gHz, gSn, gOp, gLn, gEc, gRm, gVr⟩ := R
  refine ⟨?_, gLo, gRe, gHp, gLb, gFr, gPr, gCt, gRt, gHz, gSn, gOp, ?_, gEc, gRm, gVr⟩
  · unfold hq_sc at gSc ⊢; omega
  · obtain ⟨h1, h2, h3, h4, h5⟩ := gLn
    exact ⟨fun i hi => by have := h1 i hi; omega, h2, fun s hs => by have := h3 s hs; omega, h4, h5⟩
theorem hm_T {T' : Nat} (R : hq_RR k ls ll H T L tm cnt fc lim thr cel cN cX cV cS cO fs hz ph oo rA rB rC m vr pc sR sC rt rn ops lo a b c s0 s1 sp lb fa ow) (h : T ≤ T') (h2 : T' ≤ L) : hq_RR k ls ll H T' L tm cnt fc lim thr cel cN cX cV cS cO fs hz ph oo rA rB rC m vr pc sR sC rt rn ops lo a b c s0 s1 sp lb fa ow := by
  obtain ⟨gSc, gLo, gRe, gHp, gLb, gFr, gPr, gCt, gRt, gHz, gSn, gOp, gLn, gEc, gRm, gVr⟩ := R
  refine ⟨?_, fun s hs => hq_LO_mono (gLo s hs) (Nat.le_refl _) (Nat.le_refl _) h, gRe, gHp, gLb, gFr, gPr, gCt, gRt, gHz, gSn, gOp, gLn, gEc, gRm, gVr⟩
  unfold hq_sc at gSc ⊢; omega
theorem hm_RE {N : Nat} {A B : Nat → Int32} (h : hq_RE N k A B) : hq_RE N k (upd A t (hq_rf k x)) (upd B t x) := by
  intro i hi
  by_cases e : i = t
  · rw [e, pk_us, pk_us]
  · rw [pk_un e, pk_un e]; exact h i hi
theorem hm_a (R : hq_RR k ls ll H T L tm cnt fc lim thr cel cN cX cV cS cO fs hz ph oo rA rB rC m vr pc sR sC rt rn ops lo a b c s0 s1 sp lb fa ow) (ht : t < 4) (h : hq_LO L H T (ph t).toInt x.toInt (b t).toInt (c t).toInt (m t).toInt (s0 t).toInt (s1 t).toInt)
    (h6 : ¬ ((6 ≤ (ph t).toInt ∧ (ph t).toInt ≤ 9) ∨ (14 ≤ (ph t).toInt ∧ (ph t).toInt ≤ 15))) (h21 : (ph t).toInt ≠ 21) : hq_RR k ls ll H T L tm cnt fc lim thr cel cN cX cV cS cO fs hz ph oo (upd rA t (hq_rf k x)) rB rC m vr pc sR sC rt rn ops lo (upd a t x) b c s0 s1 sp lb fa ow := by
  obtain ⟨gSc, gLo, gRe, gHp, gLb, gFr, gPr, gCt, gRt, gHz, gSn, gOp, gLn, gEc, gRm, gVr⟩ := R
  refine ⟨gSc, ?_, ?_, gHp, gLb, gFr, gPr, gCt, gRt, ?_, gSn, gOp, gLn, gEc, ?_, gVr⟩
  · intro s hs
    by_cases e : s = t
    · subst e; rw [pk_us]; exact h
    · rw [pk_un e]; exact gLo s hs
  · obtain ⟨e1, e2, e3, e4, e5, e6, e7, e8⟩ := gRe
    exact ⟨e1, hm_RE e2, e3, e4, e5, e6, e7, e8⟩
  · intro s hs
    by_cases e : s = t
    · subst e; exact ⟨fun z => absurd z h6, (gHz s hs).2⟩
    · rw [pk_un e]; exact gHz s hs
  · intro s hs
    by_cases e : s = t
    · subst e; exact fun z => absurd z h21
    · rw [pk_un e]; exact gRm s hs
theorem hm_b (R : hq_RR k ls ll H T L tm cnt fc lim thr cel cN cX cV cS cO fs hz ph oo rA rB rC m vr pc sR sC rt rn ops lo a b c s0 s1 sp lb fa ow) (ht : t < 4) (h : hq_LO L H T (ph t).toInt (a t).toInt x.toInt (c t).toInt (m t).toInt (s0 t).toInt (s1 t).toInt) : hq_RR k ls ll H T L tm cnt fc lim thr cel cN cX cV cS cO fs hz ph oo rA (upd rB t (hq_rf k x)) rC m vr pc sR sC rt rn ops lo a (upd b t x) c s0 s1 sp lb fa ow := by
  obtain ⟨gSc, gLo, gRe, gHp, gLb, gFr, gPr, gCt, gRt, gHz, gSn, gOp, gLn, gEc, gRm, gVr⟩ := R
  refine ⟨gSc, ?_, ?_, gHp, gLb, gFr, gPr, gCt, gRt, gHz, gSn, gOp, gLn, gEc, gRm, gVr⟩
  · intro s hs
    by_cases e : s = t
    · subst e; rw [pk_us]; exact h
    · rw [pk_un e]; exact gLo s hs
  · obtain ⟨e1, e2, e3, e4, e5, e6, e7, e8⟩ := gRe
    exact ⟨e1, e2, hm_RE e3, e4, e5, e6, e7, e8⟩
theorem hm_c (R : hq_RR k ls ll H T L tm cnt fc lim thr cel cN cX cV cS cO fs hz ph oo rA rB rC m vr pc sR sC rt rn ops lo a b c s0 s1 sp lb fa ow) (ht : t < 4) (h : hq_LO L H T (ph t).toInt (a t).toInt (b t).toInt x.toInt (m t).toInt (s0 t).toInt (s1 t).toInt)
    (h19 : (ph t).toInt ≠ 19) (h20 : (ph t).toInt ≠ 20) : hq_RR k ls ll H T L tm cnt fc lim thr cel cN cX cV cS cO fs hz ph oo rA rB (upd rC t (hq_rf k x)) m vr pc sR sC rt rn ops lo a b (upd c t x) s0 s1 sp lb fa ow := by
  obtain ⟨gSc, gLo, gRe, gHp, gLb, gFr, gPr, gCt, gRt, gHz, gSn, gOp, gLn, gEc, gRm, gVr⟩ := R
  refine ⟨gSc, ?_, ?_, gHp, gLb, gFr, gPr, gCt, gRt, ?_, gSn, gOp, gLn, gEc, gRm, ?_⟩
  · intro s hs
    by_cases e : s = t
    · subst e; rw [pk_us]; exact h
    · rw [pk_un e]; exact gLo s hs
  · obtain ⟨e1, e2, e3, e4, e5, e6, e7, e8⟩ := gRe
    exact ⟨e1, e2, e3, hm_RE e4, e5, e6, e7, e8⟩
  · intro s hs
    by_cases e : s = t
    · subst e; exact ⟨(gHz s hs).1, fun z => absurd z h19⟩
    · rw [pk_un e]; exact gHz s hs
  · intro s hs
    by_cases e : s = t
    · subst e; exact fun z => absurd z h20
    · rw [pk_un e]; exact gVr s hs
theorem hm_s0 (R : hq_RR k ls ll H T L tm cnt fc lim thr cel cN cX cV cS cO fs hz ph oo rA rB rC m vr pc sR sC rt rn ops lo a b c s0 s1 sp lb fa ow) (ht : t < 4) (h : hq_LO L H T (ph t).toInt (a t).toInt (b t).toInt (c t).toInt (m t).toInt x.toInt (s1 t).toInt) : hq_RR k ls ll H T L tm cnt fc lim thr cel cN cX cV cS cO fs (upd hz (2 * t) (hq_rf k x)) ph oo rA rB rC m vr pc sR sC rt rn ops lo a b c (upd s0 t x) s1 sp lb fa ow := by
  obtain ⟨gSc, gLo, gRe, gHp, gLb, gFr, gPr, gCt, gRt, gHz, gSn, gOp, gLn, gEc, gRm, gVr⟩ := R
  refine ⟨gSc, ?_, ?_, gHp, gLb, gFr, gPr, gCt, gRt, gHz, gSn, gOp, gLn, gEc, gRm, gVr⟩
  · intro s hs
    by_cases e : s = t
    · subst e; rw [pk_us]; exact h
    · rw [pk_un e]; exact gLo s hs
  · obtain ⟨e1, e2, e3, e4, e5, e6, e7, e8⟩ := gRe
    refine ⟨e1, e2, e3, e4, fun i hi => ?_, fun i hi => ?_, e7, e8⟩
    · by_cases e : i = t
      · rw [e, pk_us, pk_us]
      · rw [pk_un e, pk_un (by omega)]; exact e5 i hi
    · rw [pk_un (by omega)]; exact e6 i hi
theorem hm_s1 (R : hq_RR k ls ll H T L tm cnt fc lim thr cel cN cX cV cS cO fs hz ph oo rA rB rC m vr pc sR sC rt rn ops lo a b c s0 s1 sp lb fa ow) (ht : t < 4) (h : hq_LO L H T (ph t).toInt (a t).toInt (b t).toInt (c t).toInt (m t).toInt (s0 t).toInt x.toInt) : hq_RR k ls ll H T L tm cnt fc lim thr cel cN cX cV cS cO fs (upd hz (2 * t + 1) (hq_rf k x)) ph oo rA rB rC m vr pc sR sC rt rn ops lo a b c s0 (upd s1 t x) sp lb fa ow := by
  obtain ⟨gSc, gLo, gRe, gHp, gLb, gFr, gPr, gCt, gRt, gHz, gSn, gOp, gLn, gEc, gRm, gVr⟩ := R
  refine ⟨gSc, ?_, ?_, gHp, gLb, gFr, gPr, gCt, gRt, gHz, gSn, gOp, gLn, gEc, gRm, gVr⟩
  · intro s hs
    by_cases e : s = t
    · subst e; rw [pk_us]; exact h
    · rw [pk_un e]; exact gLo s hs
  · obtain ⟨e1, e2, e3, e4, e5, e6, e7, e8⟩ := gRe
    refine ⟨e1, e2, e3, e4, fun i hi => ?_, fun i hi => ?_, e7, e8⟩
    · rw [pk_un (by omega)]; exact e5 i hi
    · by_cases e : i = t
      · rw [e, pk_us, pk_us]
      · rw [pk_un e, pk_un (by omega)]; exact e6 i hi
theorem hm_m (R : hq_RR k ls ll H T L tm cnt fc lim thr cel cN cX cV cS cO fs hz ph oo rA rB rC m vr pc sR sC rt rn ops lo a b c s0 s1 sp lb fa ow) (ht : t < 4) (h : hq_LO L H T (ph t).toInt (a t).toInt (b t).toInt (c t).toInt x.toInt (s0 t).toInt (s1 t).toInt)
    (h0 : 0 ≤ x.toInt ∧ x.toInt ≤ tm) (h1 : x ≠ 0 → ∀ i, i < cnt → hq_f ops i 5 ≠ x) (h2 : x ≠ 0 → ∀ s, s < 4 → s ≠ t → m s ≠ x) : hq_RR k ls ll H T L tm cnt fc lim thr cel cN cX cV cS cO fs hz ph oo rA rB rC (upd m t x) vr pc sR sC rt rn ops lo a b c s0 s1 sp lb fa ow := by
  obtain ⟨gSc, gLo, gRe, gHp, gLb, gFr, gPr, gCt, gRt, gHz, gSn, gOp, gLn, gEc, gRm, gVr⟩ := R
  refine ⟨gSc, ?_, gRe, gHp, gLb, gFr, gPr, gCt, gRt, gHz, gSn, gOp, ?_, gEc, gRm, gVr⟩
  · intro s hs
    by_cases e : s = t
    · subst e; rw [pk_us]; exact h
    · rw [pk_un e]; exact gLo s hs
  · obtain ⟨e1, e2, e3, e4, e5⟩ := gLn
    refine ⟨e1, e2, fun s hs => ?_, fun s hs => ?_, e5⟩
    · by_cases e : s = t
      · subst e; rw [pk_us]; exact h0
      · rw [pk_un e]; exact e3 s hs
    · by_cases e : s = t
      · subst e
        rw [pk_us]
        refine fun z => ⟨h1 z, fun r hr hne => ?_⟩
        rw [pk_un hne]
        exact h2 z r hr hne
      · rw [pk_un e]
        refine fun z => ⟨(e4 s hs z).1, fun r hr hne => ?_⟩
        by_cases e' : r = t
        · subst e'
          rw [pk_us]
          intro zz
          rw [zz] at h2
          exact h2 z s hs e rfl
        · rw [pk_un e']; exact (e4 s hs z).2 r hr hne
theorem hm_v (R : hq_RR k ls ll H T L tm cnt fc lim thr cel cN cX cV cS cO fs hz ph oo rA rB rC m vr pc sR sC rt rn ops lo a b c s0 s1 sp lb fa ow) (ht : t < 4) (h20 : (ph t).toInt ≠ 20) : hq_RR k ls ll H T L tm cnt fc lim thr cel cN cX cV cS cO fs hz ph oo rA rB rC m (upd vr t x) pc sR sC rt rn ops lo a b c s0 s1 sp lb fa ow := by
  obtain ⟨gSc, gLo, gRe, gHp, gLb, gFr, gPr, gCt, gRt, gHz, gSn, gOp, gLn, gEc, gRm, gVr⟩ := R
  refine ⟨gSc, gLo, gRe, gHp, gLb, gFr, gPr, gCt, gRt, gHz, gSn, gOp, gLn, gEc, gRm, ?_⟩
  intro s hs
  by_cases e : s = t
  · subst e; exact fun z => absurd z h20
  · rw [pk_un e]; exact gVr s hs
theorem hm_ph (R : hq_RR k ls ll H T L tm cnt fc lim thr cel cN cX cV cS cO fs hz ph oo rA rB rC m vr pc sR sC rt rn ops lo a b c s0 s1 sp lb fa ow) (ht : t < 4) (hne : (ph t).toInt ≠ 0) (hp0 : x.toInt ≠ 0)
    (h : hq_LO L H T x.toInt (a t).toInt (b t).toInt (c t).toInt (m t).toInt (s0 t).toInt (s1 t).toInt)
    (hpv : (3 ≤ x.toInt ∧ x.toInt ≤ 9) ↔ (3 ≤ (ph t).toInt ∧ (ph t).toInt ≤ 9))
    (hA : ((6 ≤ x.toInt ∧ x.toInt ≤ 9) ∨ (14 ≤ x.toInt ∧ x.toInt ≤ 15)) → ∀ n, n ≤ L → a t = nI n → hq_PR H L sC sp fa ow (2 * t) n)
    (hC : x.toInt = 19 → ∀ n, n ≤ L → c t = nI n → hq_PR H L sC sp fa ow (2 * t + 1) n)
    (hS : hq_SN x.toInt (sC t).toInt)
    (hO : ∀ o, o < cnt → oo t = nI o → hq_OB t x.toInt (hq_f ops o 0) (hq_f ops o 1) (hq_f ops o 2) (hq_f ops o 3) (hq_f ops o 5))
    (h21 : x.toInt ≠ 21) (h20 : x.toInt = 20 → ∀ n, n ≤ 64 → c t = nI n → vr t = hq_vl ops lb n) : hq_RR k ls ll H T L tm cnt fc lim thr cel cN cX cV cS cO fs hz (upd ph t x) oo rA rB rC m vr pc sR sC rt rn ops lo a b c s0 s1 sp lb fa ow := by
  obtain ⟨gSc, gLo, gRe, gHp, gLb, gFr, gPr, gCt, gRt, gHz, gSn, gOp, gLn, gEc, gRm, gVr⟩ := R
  have epv : ∀ s, hq_pv (upd ph t x) s = hq_pv ph s := by
    intro s
    by_cases e : s = t
    · subst e
      rw [Bool.eq_iff_iff, hq_pv_iff, hq_pv_iff, pk_us]
      exact hpv
    · unfold hq_pv
      rw [pk_un e]
  refine ⟨gSc, ?_, gRe, gHp, gLb, gFr, ?_, ?_, gRt, ?_, ?_, ?_, gLn, gEc, ?_, ?_⟩
  · intro s hs
    by_cases e : s = t
    · subst e; rw [pk_us]; exact h
    · rw [pk_un e]; exact gLo s hs
  · refine ⟨fun s hs z => gPr.1 s hs (by rw [← epv]; exact z), fun s r hs hr z1 z2 => gPr.2 s r hs hr (by rw [← epv]; exact z1) (by rw [← epv]; exact z2)⟩
  · unfold hq_ct
    rw [hq_cn_congr (fun s _ => epv s)]
    exact gCt
  · intro s hs
    by_cases e : s = t
    · subst e; rw [pk_us]; exact ⟨hA, hC⟩
    · rw [pk_un e]; exact gHz s hs
  · intro s hs
    by_cases e : s = t
    · subst e; rw [pk_us]; exact ⟨hS, (gSn s hs).2⟩
    · rw [pk_un e]; exact gSn s hs
  · obtain ⟨e1, e2, e3, e4⟩ := gOp
    refine ⟨fun s hs => ?_, fun i hi z => ?_, e3, e4⟩
    · by_cases e : s = t
      · subst e
        rw [pk_us]
        intro _
        obtain ⟨o, ho, eo, _⟩ := e1 s hs hne
        exact ⟨o, ho, eo, hO o ho eo⟩
      · rw [pk_un e]; exact e1 s hs
    · obtain ⟨s, hs, y1, y2, y3⟩ := e2 i hi z
      refine ⟨s, hs, y1, ?_, y3⟩
      by_cases e : s = t
      · rw [e, pk_us]; exact hp0
      · rw [pk_un e]; exact y2
  · intro s hs
    by_cases e : s = t
    · subst e; rw [pk_us]; exact fun z => absurd z h21
    · rw [pk_un e]; exact gRm s hs
  · intro s hs
    by_cases e : s = t
    · subst e; rw [pk_us]; exact h20
    · rw [pk_un e]; exact gVr s hs
end
end
section
/-! moves of the relation: end of an operation, nodes not yet linked, values -/
theorem hq_pv_eq {ph : Nat → Int32} {t : Nat} {x : Int32} (hpv : (3 ≤ x.toInt ∧ x.toInt ≤ 9) ↔ (3 ≤ (ph t).toInt ∧ (ph t).toInt ≤ 9)) (s : Nat) : hq_pv (upd ph t x) s = hq_pv ph s := by
  by_cases e : s = t
  · subst e
    rw [Bool.eq_iff_iff, hq_pv_iff, hq_pv_iff, pk_us]
    exact hpv
  · unfold hq_pv
    rw [pk_un e]
theorem hq_pv_n {ph : Nat → Int32} {t s : Nat} {x : Int32} (h : s ≠ t) : hq_pv (upd ph t x) s = hq_pv ph s := by
  unfold hq_pv
  rw [pk_un h]
theorem hq_pv_s {ph : Nat → Int32} {t : Nat} {x : Int32} : hq_pv (upd ph t x) t = true ↔ 3 ≤ x.toInt ∧ x.toInt ≤ 9 := by
  rw [hq_pv_iff, pk_us]
section
variable {k : Nat → Nat} {ls : Nat → List Nat} {ll : List Nat} {H T L tm cnt fc lim thr cel : Nat} {cN cX cV cS cO fs hz ph oo rA rB rC m vr pc sR sC rt rn ops lo a b c s0 s1 sp lb fa ow : Nat → Int32} {t : Nat} {x : Int32}
theorem hc_hp {ops' lb' : Nat → Int32} (g : hq_hp k H L cN cX cV cS cO ops lb fa ow) (h : ∀ n, 1 ≤ n → n ≤ L → hq_vl ops' lb' n = hq_vl ops lb n) : hq_hp k H L cN cX cV cS cO ops' lb' fa ow := by
  obtain ⟨g1, g2, g3⟩ := g
  refine ⟨fun n hn => ?_, g2, g3⟩
  obtain ⟨e1, e2, e3, e4⟩ := g1 n hn
  exact ⟨e1, e2, e3, fun z => by rw [h n z (hq_hl_iff.mp hn).1]; exact e4 z⟩
theorem hc_vl {ops' : Nat → Int32} (h : ∀ i, hq_f ops' i 2 = hq_f ops i 2) (n : Nat) : hq_vl ops' lb n = hq_vl ops lb n := h _
theorem hc_lb {ops' : Nat → Int32} (g : hq_lb L cnt ops lb) (h0 : ∀ i, i < cnt → hq_f ops' i 0 = hq_f ops i 0) (h5 : ∀ i, i < cnt → hq_f ops i 5 ≠ 0 → hq_f ops' i 5 ≠ 0) : hq_lb L cnt ops' lb := by
  intro n h1 h2
  obtain ⟨o, ho, e1, e2, e3⟩ := g n h1 h2
  exact ⟨o, ho, e1, by rw [h0 o ho]; exact e2, h5 o ho e3⟩
theorem hc_ln {ops' : Nat → Int32} (g : hq_ln ll tm cnt m ops lo) (h5 : ∀ i, i < cnt → hq_f ops' i 5 = hq_f ops i 5) : hq_ln ll tm cnt m ops' lo := by
  obtain ⟨e1, e2, e3, e4, e5, e6, e7⟩ := g
  refine ⟨fun i hi => by rw [h5 i hi]; exact e1 i hi, fun i j hi hj => by rw [h5 i hi, h5 j hj]; exact e2 i j hi hj, e3, fun t ht z => ⟨fun i hi => by rw [h5 i hi]; exact (e4 t ht z).1 i hi, (e4 t ht z).2⟩, e5, ?_, fun i => ?_⟩
  · refine List.Pairwise.imp_of_mem ?_ e6
    intro i j hi hj hij
    rw [h5 i ((e7 i).mp hi).1, h5 j ((e7 j).mp hj).1]
    exact hij
  · rw [e7 i]
    constructor
    · exact fun z => ⟨z.1, by rw [h5 i z.1]; exact z.2⟩
    · exact fun z => ⟨z.1, by rw [← h5 i z.1]; exact z.2⟩
theorem hc_ec {ops' : Nat → Int32} (g : hq_ec H L cnt ops) (h0 : ∀ i, i < cnt → hq_f ops' i 0 = hq_f ops i 0) (h2 : ∀ i, i < cnt → hq_f ops i 0 = 2 → hq_f ops' i 2 = hq_f ops i 2) (h5 : ∀ i, i < cnt → hq_f ops' i 5 = hq_f ops i 5) : hq_ec H L cnt ops' := by
  unfold hq_ec at g ⊢
  rw [← g.1, ← g.2]
  refine ⟨hq_cn_congr fun i hi => ?_, hq_cn_congr fun i hi => ?_⟩
  · unfold hq_ce; rw [h0 i hi, h5 i hi]
  · rw [Bool.eq_iff_iff, hq_cd_iff, hq_cd_iff, h0 i hi, h5 i hi]
    constructor
    · exact fun z => ⟨z.1, by rw [← h2 i hi z.1]; exact z.2.1, z.2.2⟩
    · exact fun z => ⟨z.1, by rw [h2 i hi z.1]; exact z.2.1, z.2.2⟩
theorem hc_vr {ops' : Nat → Int32} (g : hq_vr ph c vr ops lb) (h : ∀ i, hq_f ops' i 2 = hq_f ops i 2) : hq_vr ph c vr ops' lb := by
  intro t ht hp n hn e
  rw [hc_vl h]
  exact g t ht hp n hn e
/-- the operation of a thread -/
theorem hm_o {o : Nat} (R : hq_RR k ls ll H T L tm cnt fc lim thr cel cN cX cV cS cO fs hz ph oo rA rB rC m vr pc sR sC rt rn ops lo a b c s0 s1 sp lb fa ow) (ht : t < 4) (hne : (ph t).toInt ≠ 0) (ho : o < 64) (hoo : oo t = nI o) : o < cnt ∧ hq_OB t (ph t).toInt (hq_f ops o 0) (hq_f ops o 1) (hq_f ops o 2) (hq_f ops o 3) (hq_f ops o 5) := by
  obtain ⟨gSc, gLo, gRe, gHp, gLb, gFr, gPr, gCt, gRt, gHz, gSn, gOp, gLn, gEc, gRm, gVr⟩ := R
  obtain ⟨o', ho', e, w⟩ := gOp.1 t ht hne
  unfold hq_sc at gSc
  rw [hoo, nI_eq (by omega) (by omega)] at e
  subst e
  exact ⟨ho', w⟩
theorem hm_fin {o : Nat} {r w : Int32} (R : hq_RR k ls ll H T L tm cnt fc lim thr cel cN cX cV cS cO fs hz ph oo rA rB rC m vr pc sR sC rt rn ops lo a b c s0 s1 sp lb fa ow) (ht : t < 4) (h24 : (ph t).toInt = 24) (ho : o < 64) (hoo : oo t = nI o) (hr : r ≠ 0) :
    hq_RR k ls ll H T L tm cnt fc lim thr cel cN cX cV cS cO fs hz (upd ph t 0) (upd oo t (-1)) rA rB rC m vr pc sR sC rt rn (upd (upd ops (7 * o + 3) r) (7 * o + 6) w) lo a b c s0 s1 sp lb fa ow := by
  obtain ⟨hoc, hob⟩ := hm_o R ht (by omega) ho hoo
  obtain ⟨gSc, gLo, gRe, gHp, gLb, gFr, gPr, gCt, gRt, gHz, gSn, gOp, gLn, gEc, gRm, gVr⟩ := R
  have f1 : ∀ i g, g < 7 → g ≠ 3 → g ≠ 6 → hq_f (upd (upd ops (7 * o + 3) r) (7 * o + 6) w) i g = hq_f ops i g := fun i g h0 h1 h2 => by
    rw [hq_fn (by omega) h0 (Or.inr h2), hq_fn (by omega) h0 (Or.inr h1)]
  have f2 : ∀ i g, g < 7 → i ≠ o → hq_f (upd (upd ops (7 * o + 3) r) (7 * o + 6) w) i g = hq_f ops i g := fun i g h0 h1 => by
    rw [hq_fn (by omega) h0 (Or.inl h1), hq_fn (by omega) h0 (Or.inl h1)]
  have f3 : hq_f (upd (upd ops (7 * o + 3) r) (7 * o + 6) w) o 3 = r := by
    rw [hq_fn (by omega) (by omega) (Or.inr (by omega)), hq_fs]
  generalize upd (upd ops (7 * o + 3) r) (7 * o + 6) w = ops' at f1 f2 f3 ⊢
  have h5 : ∀ i, hq_f ops' i 5 = hq_f ops i 5 := fun i => f1 i 5 (by omega) (by omega) (by omega)
  have h0 : ∀ i, hq_f ops' i 0 = hq_f ops i 0 := fun i => f1 i 0 (by omega) (by omega) (by omega)
  have h2 : ∀ i, hq_f ops' i 2 = hq_f ops i 2 := fun i => f1 i 2 (by omega) (by omega) (by omega)
  have epv : ∀ s, hq_pv (upd ph t 0) s = hq_pv ph s := hq_pv_eq (by rw [h24, hq_i0]; omega)
  have hsn := gSn t ht
  have hlo := gLo t ht
  rw [h24] at hsn hlo
  refine ⟨gSc, ?_, gRe, hc_hp gHp fun n _ _ => hc_vl h2 n, hc_lb gLb (fun i _ => h0 i) (fun i _ => by rw [h5 i]; exact id), gFr, ?_, ?_, gRt, ?_, ?_, ?_, hc_ln gLn (fun i _ => h5 i), hc_ec gEc (fun i _ => h0 i) (fun i _ _ => h2 i) (fun i _ => h5 i), ?_, ?_⟩
  · intro s hs
    by_cases e : s = t
    · subst e; rw [pk_us, hq_i0]; exact hq_LO_0 (by omega) (hq_LO_rg hlo)
    · rw [pk_un e]; exact gLo s hs
  · refine ⟨fun s hs z => ?_, fun s r hs hr z1 z2 => gPr.2 s r hs hr (by rw [← epv]; exact z1) (by rw [← epv]; exact z2)⟩
    by_cases e : s = t
    · subst e
      rw [hq_pv_s, hq_i0] at z
      omega
    · rw [epv] at z
      obtain ⟨d, y1, y2, y3, y4, y5, y6⟩ := gPr.1 s hs z
      exact ⟨d, y1, y2, y3, y4, by rw [pk_un e, h2]; exact y5, y6⟩
  · unfold hq_ct
    rw [hq_cn_congr (fun s _ => epv s)]
    exact gCt
  · intro s hs
    by_cases e : s = t
    · subst e; rw [pk_us, hq_i0]; exact ⟨fun z => by omega, fun z => by omega⟩
    · rw [pk_un e]; exact gHz s hs
  · intro s hs
    by_cases e : s = t
    · subst e; rw [pk_us, hq_i0]; refine ⟨?_, hsn.2⟩; have := hsn.1; unfold hq_SN at this ⊢; omega
    · rw [pk_un e]; exact gSn s hs
  · obtain ⟨e1, e2, e3, e4⟩ := gOp
    refine ⟨fun s hs => ?_, fun i hi z => ?_, fun i hi hi2 => ?_, fun i hi z => ?_⟩
    · by_cases e : s = t
      · subst e; rw [pk_us, hq_i0]; exact fun z => absurd rfl z
      · rw [pk_un e, pk_un e]
        intro hp
        obtain ⟨o', ho', y1, y2⟩ := e1 s hs hp
        have hne : o' ≠ o := by
          intro z
          subst z
          have z1 := y2.1
          rw [hob.1, nI_eq (by omega) (by omega)] at z1
          exact e z1.symm
        refine ⟨o', ho', y1, ?_⟩
        rw [f2 o' 0 (by omega) hne, f2 o' 1 (by omega) hne, f2 o' 2 (by omega) hne, f2 o' 3 (by omega) hne, f2 o' 5 (by omega) hne]
        exact y2
    · have hne : i ≠ o := by
        intro z2
        rw [z2, f3] at z
        exact hr z
      rw [f2 i 3 (by omega) hne] at z
      obtain ⟨s, hs, y1, y2, y3⟩ := e2 i hi z
      have hst : s ≠ t := by
        intro z2
        unfold hq_sc at gSc
        rw [z2, hoo, nI_eq (by omega) (by omega)] at y3
        exact hne y3.symm
      exact ⟨s, hs, by rw [f2 i 1 (by omega) hne]; exact y1, by rw [pk_un hst]; exact y2, by rw [pk_un hst]; exact y3⟩
    · rw [f2 i 5 (by omega) (by omega), f2 i 6 (by omega) (by omega)]
      exact e3 i hi hi2
    · rw [h2]
      rw [h0] at z
      exact e4 i hi z
  · intro s hs
    by_cases e : s = t
    · subst e; rw [pk_us, hq_i0]; exact fun z => by omega
    · rw [pk_un e]; exact gRm s hs
  · refine hc_vr (ops := ops) ?_ h2
    intro s hs
    by_cases e : s = t
    · subst e; rw [pk_us, hq_i0]; exact fun z => by omega
    · rw [pk_un e]; exact gVr s hs
theorem hm_take {o d : Nat} {w : Int32} (R : hq_RR k ls ll H T L tm cnt (fc + 1) lim thr cel cN cX cV cS cO fs hz ph oo rA rB rC m vr pc sR sC rt rn ops lo a b c s0 s1 sp lb fa ow) (ht : t < 4) (h1 : 1 ≤ (ph t).toInt) (h2 : (ph t).toInt ≤ 2) (ho : o < 64) (hoo : oo t = nI o) (hd : d < 16) (hfs : fs fc = nI d) (hw : w = hq_f ops o 2) :
    hq_RR k ls ll H T L tm cnt fc lim thr cel cN (upd cX d (-1)) (upd cV d w) (upd cS d 0) cO fs hz (upd ph t 3) oo rA rB rC m vr (upd pc t (nI d)) sR sC rt rn ops lo a b c s0 s1 sp lb fa ow := by
  subst hw
  obtain ⟨hoc, hob⟩ := hm_o R ht (by omega) ho hoo
  obtain ⟨gSc, gLo, gRe, gHp, gLb, gFr, gPr, gCt, gRt, gHz, gSn, gOp, gLn, gEc, gRm, gVr⟩ := R
  have hcN : cN d = -1 := by
    obtain ⟨d', hd', e1, e2⟩ := gFr.1 fc (by omega)
    rw [hfs, nI_eq (by omega) (by omega)] at e1
    rw [e1]; exact e2
  have hkd : ∀ n, hq_hl H L fa n = true → k n ≠ d := by
    intro n hn z
    have h64 := (hq_hl_iff.mp hn).1
    unfold hq_sc at gSc
    have := (gHp.1 n hn).1
    rw [z, hcN] at this
    exact hq_m1n (by omega) this
  have hlo := gLo t ht
  have hsn := gSn t ht
  refine ⟨gSc, ?_, gRe, ?_, gLb, ?_, ?_, ?_, gRt, ?_, ?_, ?_, gLn, gEc, ?_, ?_⟩
  · intro s hs
    by_cases e : s = t
    · subst e; rw [pk_us, hq_i3]; exact hq_LO_0 (by omega) (hq_LO_rg hlo)
    · rw [pk_un e]; exact gLo s hs
  · obtain ⟨g1, g2, g3⟩ := gHp
    refine ⟨fun n hn => ?_, g2, g3⟩
    rw [pk_un (hkd n hn), pk_un (hkd n hn), pk_un (hkd n hn)]
    exact g1 n hn
  · exact ⟨fun i hi => gFr.1 i (by omega), fun i j hi hj => gFr.2 i j (by omega) (by omega)⟩
  · obtain ⟨g1, g2⟩ := gPr
    have key : ∀ s, s < 4 → s ≠ t → hq_pv (upd ph t 3) s = true → hq_pv ph s = true := fun s _ e z => by rw [hq_pv_n e] at z; exact z
    have nf : ∀ s, s < 4 → hq_pv ph s = true → pc s ≠ nI d := by
      intro s hs z z2
      obtain ⟨d', y1, y2, y3, y4, y5, y6⟩ := g1 s hs z
      exact y6 fc (by omega) (by rw [hfs, ← z2, y2])
    refine ⟨fun s hs z => ?_, fun s r hs hr z1 z2 e => ?_⟩
    · by_cases e : s = t
      · subst e
        refine ⟨d, hd, pk_us, hcN, pk_us, ?_, fun i hi z2 => ?_⟩
        · rw [pk_us, hoo, nI_clamp (by omega)]
        · have := gFr.2 i fc (by omega) (by omega) (by rw [z2, hfs])
          omega
      · have zz := key s hs e z
        obtain ⟨d', y1, y2, y3, y4, y5, y6⟩ := g1 s hs zz
        have hne : d' ≠ d := fun q => nf s hs zz (by rw [y2, q])
        exact ⟨d', y1, by rw [pk_un e]; exact y2, y3, by rw [pk_un hne]; exact y4, by rw [pk_un hne]; exact y5, fun i hi => y6 i (by omega)⟩
    · by_cases e1 : s = t
      · by_cases e2 : r = t
        · rw [e1, e2]
        · subst e1
          rw [pk_us, pk_un e2] at e
          exact absurd e.symm (nf r hr (key r hr e2 z2))
      · by_cases e2 : r = t
        · subst e2
          rw [pk_us, pk_un e1] at e
          exact absurd e (nf s hs (key s hs e1 z1))
        · rw [pk_un e1, pk_un e2] at e
          exact g2 s r hs hr (key s hs e1 z1) (key r hr e2 z2) e
  · unfold hq_ct at gCt ⊢
    have : hq_cn (hq_pv (upd ph t 3)) 4 = hq_cn (hq_pv ph) 4 + 1 := hq_cn_flip ht (by
        rw [Bool.eq_false_iff]; intro z; rw [hq_pv_iff] at z; omega) (by rw [hq_pv_s, hq_i3]; omega) (fun i _ hi => hq_pv_n hi)
    omega
  · intro s hs
    by_cases e : s = t
    · subst e; rw [pk_us, hq_i3]; exact ⟨fun z => by omega, fun z => by omega⟩
    · rw [pk_un e]; exact gHz s hs
  · intro s hs
    by_cases e : s = t
    · subst e; rw [pk_us, hq_i3]; refine ⟨?_, hsn.2⟩; have := hsn.1; unfold hq_SN at this ⊢; omega
    · rw [pk_un e]; exact gSn s hs
  · obtain ⟨e1, e2, e3, e4⟩ := gOp
    refine ⟨fun s hs => ?_, fun i hi z => ?_, e3, e4⟩
    · by_cases e : s = t
      · subst e
        rw [pk_us, hq_i3]
        intro _
        refine ⟨o, hoc, hoo, ?_⟩
        unfold hq_OB at hob ⊢
        obtain ⟨q1, q2, q3, q4, q5, q6, q7, q8⟩ := hob
        exact ⟨q1, q2, q3, fun _ => q4 (by omega), fun z => by omega, fun _ => q6 (by omega), fun z => by omega, fun z => by omega⟩
      · rw [pk_un e]; exact e1 s hs
    · obtain ⟨s, hs, y1, y2, y3⟩ := e2 i hi z
      refine ⟨s, hs, y1, ?_, y3⟩
      by_cases e : s = t
      · rw [e, pk_us, hq_i3]; omega
      · rw [pk_un e]; exact y2
  · intro s hs
    by_cases e : s = t
    · subst e; rw [pk_us, hq_i3]; exact fun z => by omega
    · rw [pk_un e]; exact gRm s hs
  · intro s hs
    by_cases e : s = t
    · subst e; rw [pk_us, hq_i3]; exact fun z => by omega
    · rw [pk_un e]; exact gVr s hs
/-- the scan's count into its operation -/
theorem hm_setv {o : Nat} {w : Int32} (R : hq_RR k ls ll H T L tm cnt fc lim thr cel cN cX cV cS cO fs hz ph oo rA rB rC m vr pc sR sC rt rn ops lo a b c s0 s1 sp lb fa ow) (ht : t < 4) (h24 : (ph t).toInt = 24) (ho : o < 64) (hoo : oo t = nI o) (h3 : hq_f ops o 0 = 3) :
    hq_RR k ls ll H T L tm cnt fc lim thr cel cN cX cV cS cO fs hz ph oo rA rB rC m vr pc sR sC rt rn (upd ops (7 * o + 2) w) lo a b c s0 s1 sp lb fa ow := by
  obtain ⟨hoc, hob⟩ := hm_o R ht (by omega) ho hoo
  obtain ⟨gSc, gLo, gRe, gHp, gLb, gFr, gPr, gCt, gRt, gHz, gSn, gOp, gLn, gEc, gRm, gVr⟩ := R
  have f1 : ∀ i g, g < 7 → g ≠ 2 → hq_f (upd ops (7 * o + 2) w) i g = hq_f ops i g := fun i g h0 h1 => by
    rw [hq_fn (by omega) h0 (Or.inr h1)]
  have f2 : ∀ i g, g < 7 → i ≠ o → hq_f (upd ops (7 * o + 2) w) i g = hq_f ops i g := fun i g h0 h1 => by
    rw [hq_fn (by omega) h0 (Or.inl h1)]
  generalize upd ops (7 * o + 2) w = ops' at f1 f2 ⊢
  have h5 : ∀ i, hq_f ops' i 5 = hq_f ops i 5 := fun i => f1 i 5 (by omega) (by omega)
  have h0 : ∀ i, hq_f ops' i 0 = hq_f ops i 0 := fun i => f1 i 0 (by omega) (by omega)
  have k1 : ∀ i, hq_f ops i 0 = 1 → hq_f ops' i 2 = hq_f ops i 2 := fun i z => f2 i 2 (by omega) (fun q => by rw [q, h3] at z; exact absurd z (by decide))
  have k2 : ∀ i, hq_f ops i 0 = 2 → hq_f ops' i 2 = hq_f ops i 2 := fun i z => f2 i 2 (by omega) (fun q => by rw [q, h3] at z; exact absurd z (by decide))
  have hv : ∀ n, 1 ≤ n → n ≤ L → hq_vl ops' lb n = hq_vl ops lb n := by
    intro n z1 z2
    obtain ⟨o', _, y1, y2, _⟩ := gLb n z1 z2
    unfold hq_sc at gSc
    unfold hq_vl
    rw [y1, nI_clamp (by omega)]
    exact k1 _ y2
  refine ⟨gSc, gLo, gRe, hc_hp gHp hv, hc_lb gLb (fun i _ => h0 i) (fun i _ => by rw [h5 i]; exact id), gFr, ?_, gCt, gRt, gHz, gSn, ?_, hc_ln gLn (fun i _ => h5 i), hc_ec gEc (fun i _ => h0 i) (fun i _ => k2 i) (fun i _ => h5 i), gRm, ?_⟩
  · refine ⟨fun s hs z => ?_, gPr.2⟩
    obtain ⟨d, y1, y2, y3, y4, y5, y6⟩ := gPr.1 s hs z
    refine ⟨d, y1, y2, y3, y4, ?_, y6⟩
    rw [hq_pv_iff] at z
    obtain ⟨o', ho', q1, q2⟩ := gOp.1 s hs (by omega)
    unfold hq_sc at gSc
    rw [y5, q1, nI_clamp (by omega)]
    exact (k1 _ (q2.2.2.2.1 (by omega))).symm
  · obtain ⟨e1, e2, e3, e4⟩ := gOp
    refine ⟨fun s hs hp => ?_, fun i hi z => ?_, fun i hi hi2 => ?_, fun i hi z => ?_⟩
    · obtain ⟨o', ho', y1, y2⟩ := e1 s hs hp
      refine ⟨o', ho', y1, ?_⟩
      rw [h0, h5, f1 o' 1 (by omega) (by omega), f1 o' 3 (by omega) (by omega)]
      by_cases q : o' = o
      · unfold hq_OB at y2 ⊢
        obtain ⟨q1, q2, q3, q4, q5, q6, q7, q8⟩ := y2
        rw [q, h3] at q5
        refine ⟨q1, q2, q3, q4, by rw [q, h3]; exact q5, q6, fun z1 z2 => ?_, q8⟩
        exact absurd (q5 z1 (by omega)) (by decide)
      · rw [f2 o' 2 (by omega) q]; exact y2
    · rw [f1 i 3 (by omega) (by omega)] at z
      obtain ⟨s, hs, y1, y2, y3⟩ := e2 i hi z
      exact ⟨s, hs, by rw [f1 i 1 (by omega) (by omega)]; exact y1, y2, y3⟩
    · rw [h5, f1 i 6 (by omega) (by omega)]; exact e3 i hi hi2
    · rw [h0] at z
      rw [k1 i z]
      exact e4 i hi z
  · intro s hs hp n hn e
    have hL := gLo s hs
    unfold hq_sc at gSc
    unfold hq_LO at hL
    have e' : (c s).toInt = n := by rw [e, nI_toInt (by omega)]
    rw [hv n (by omega) (by omega)]
    exact gVr s hs hp n hn e
end
end
section
/-! moves of the relation: an empty dequeue takes effect; a scan reads; an operation begins -/
section
variable {k : Nat → Nat} {ls : Nat → List Nat} {ll : List Nat} {H T L tm cnt fc lim thr cel : Nat} {cN cX cV cS cO fs hz ph oo rA rB rC m vr pc sR sC rt rn ops lo a b c s0 s1 sp lb fa ow : Nat → Int32} {t : Nat} {x : Int32}
theorem hm_empty {o : Nat} {ll' : List Nat} {lo' : Nat → Int32} (R : hq_RR k ls ll H T L tm cnt fc lim thr cel cN cX cV cS cO fs hz ph oo rA rB rC m vr pc sR sC rt rn ops lo a b c s0 s1 sp lb fa ow) (ht : t < 4) (h17 : (ph t).toInt = 17) (ho : o < 64) (hoo : oo t = nI o)
    (hli : hq_li ll' cnt (upd ops (7 * o + 5) (m t)) lo') : hq_RR k ls ll' H T L tm cnt fc lim thr cel cN cX cV cS cO fs hz (upd ph t 24) oo rA rB rC (upd m t 0) vr pc sR sC rt rn (upd ops (7 * o + 5) (m t)) lo' a b c s0 s1 sp lb fa ow := by
  obtain ⟨hoc, hob⟩ := hm_o R ht (by omega) ho hoo
  obtain ⟨gSc, gLo, gRe, gHp, gLb, gFr, gPr, gCt, gRt, gHz, gSn, gOp, gLn, gEc, gRm, gVr⟩ := R
  have f1 : ∀ i g, g < 7 → g ≠ 5 → hq_f (upd ops (7 * o + 5) (m t)) i g = hq_f ops i g := fun i g h0 h1 => by
    rw [hq_fn (by omega) h0 (Or.inr h1)]
  have f2 : ∀ i g, g < 7 → i ≠ o → hq_f (upd ops (7 * o + 5) (m t)) i g = hq_f ops i g := fun i g h0 h1 => by
    rw [hq_fn (by omega) h0 (Or.inl h1)]
  have f3 : hq_f (upd ops (7 * o + 5) (m t)) o 5 = m t := hq_fs
  generalize upd ops (7 * o + 5) (m t) = ops' at f1 f2 f3 hli ⊢
  have h0 : ∀ i, hq_f ops' i 0 = hq_f ops i 0 := fun i => f1 i 0 (by omega) (by omega)
  have h2 : ∀ i, hq_f ops' i 2 = hq_f ops i 2 := fun i => f1 i 2 (by omega) (by omega)
  have epv : ∀ s, hq_pv (upd ph t 24) s = hq_pv ph s := hq_pv_eq (by rw [h17, hq_i24]; omega)
  have hsn := gSn t ht
  have hlo := gLo t ht
  rw [h17] at hsn hlo hob
  have hm0 : m t ≠ 0 := hq_ne (by rw [hq_i0]; unfold hq_LO at hlo; omega)
  have hl0 : hq_f ops o 5 = 0 := (hob.2.2.2.2.2.2.1 (by omega) (by omega)).1
  have hv1 : hq_f ops o 2 = -1 := (hob.2.2.2.2.2.2.1 (by omega) (by omega)).2
  have hk2 : hq_f ops o 0 = 2 := hob.2.2.2.2.1 (by omega) (by omega)
  refine ⟨gSc, ?_, gRe, hc_hp gHp fun n _ _ => hc_vl h2 n, hc_lb gLb (fun i _ => h0 i) (fun i _ z => ?_), gFr, ?_, ?_, gRt, ?_, ?_, ?_, ?_, ?_, ?_, ?_⟩
  · intro s hs
    by_cases e : s = t
    · subst e; rw [pk_us, pk_us, hq_i24, hq_i0]; exact hq_LO_0 (by omega) (hq_LO_rg hlo)
    · rw [pk_un e, pk_un e]; exact gLo s hs
  · by_cases e : i = o
    · rw [e, f3]; exact hm0
    · rw [f2 i 5 (by omega) e]; exact z
  · refine ⟨fun s hs z => ?_, fun s r hs hr z1 z2 => gPr.2 s r hs hr (by rw [← epv]; exact z1) (by rw [← epv]; exact z2)⟩
    rw [epv] at z
    obtain ⟨d, y1, y2, y3, y4, y5, y6⟩ := gPr.1 s hs z
    exact ⟨d, y1, y2, y3, y4, by rw [h2]; exact y5, y6⟩
  · unfold hq_ct
    rw [hq_cn_congr (fun s _ => epv s)]
    exact gCt
  · intro s hs
    by_cases e : s = t
    · subst e; rw [pk_us, hq_i24]; exact ⟨fun z => by omega, fun z => by omega⟩
    · rw [pk_un e]; exact gHz s hs
  · intro s hs
    by_cases e : s = t
    · subst e; rw [pk_us, hq_i24]; refine ⟨?_, hsn.2⟩; have := hsn.1; unfold hq_SN at this ⊢; omega
    · rw [pk_un e]; exact gSn s hs
  · obtain ⟨e1, e2, e3, e4⟩ := gOp
    refine ⟨fun s hs => ?_, fun i hi z => ?_, fun i hi hi2 => ?_, fun i hi z => ?_⟩
    · by_cases e : s = t
      · subst e
        rw [pk_us, hq_i24]
        intro _
        refine ⟨o, hoc, hoo, ?_⟩
        unfold hq_OB at hob ⊢
        obtain ⟨q1, q2, q3, q4, q5, q6, q7, q8⟩ := hob
        rw [h0, f1 o 1 (by omega) (by omega), f1 o 3 (by omega) (by omega)]
        exact ⟨q1, q2, q3, fun z => by omega, fun _ z => by omega, fun z => by omega, fun _ z => by omega, fun _ z => by omega⟩
      · rw [pk_un e]
        intro hp
        obtain ⟨o', ho', y1, y2⟩ := e1 s hs hp
        have hne : o' ≠ o := by
          intro z
          subst z
          have z1 := y2.1
          rw [hob.1, nI_eq (by omega) (by omega)] at z1
          exact e z1.symm
        refine ⟨o', ho', y1, ?_⟩
        rw [f2 o' 0 (by omega) hne, f2 o' 1 (by omega) hne, f2 o' 2 (by omega) hne, f2 o' 3 (by omega) hne, f2 o' 5 (by omega) hne]
        exact y2
    · rw [f1 i 3 (by omega) (by omega)] at z
      obtain ⟨s, hs, y1, y2, y3⟩ := e2 i hi z
      refine ⟨s, hs, by rw [f1 i 1 (by omega) (by omega)]; exact y1, ?_, y3⟩
      by_cases e : s = t
      · rw [e, pk_us, hq_i24]; omega
      · rw [pk_un e]; exact y2
    · rw [f2 i 5 (by omega) (by omega), f2 i 6 (by omega) (by omega)]; exact e3 i hi hi2
    · rw [h2]
      rw [h0] at z
      exact e4 i hi z
  · obtain ⟨e1, e2, e3, e4, e5⟩ := gLn
    refine ⟨fun i hi => ?_, fun i j hi hj z1 z2 => ?_, fun s hs => ?_, fun s hs z => ?_, hli⟩
    · by_cases e : i = o
      · rw [e, f3]; exact e3 t ht
      · rw [f2 i 5 (by omega) e]; exact e1 i hi
    · by_cases p1 : i = o
      · by_cases p2 : j = o
        · rw [p1, p2]
        · rw [p1, f3, f2 j 5 (by omega) p2] at z2
          exact absurd z2.symm ((e4 t ht hm0).1 j hj)
      · by_cases p2 : j = o
        · rw [p2, f3, f2 i 5 (by omega) p1] at z2
          exact absurd z2 ((e4 t ht hm0).1 i hi)
        · rw [f2 i 5 (by omega) p1] at z1 z2
          rw [f2 j 5 (by omega) p2] at z2
          exact e2 i j hi hj z1 z2
    · by_cases e : s = t
      · subst e; rw [pk_us, hq_i0]; omega
      · rw [pk_un e]; exact e3 s hs
    · by_cases e : s = t
      · subst e; rw [pk_us] at z; exact absurd rfl z
      · rw [pk_un e] at z ⊢
        refine ⟨fun i hi => ?_, fun r hr hne => ?_⟩
        · by_cases p1 : i = o
          · rw [p1, f3]; exact (e4 s hs z).2 t ht (fun q => e q.symm)
          · rw [f2 i 5 (by omega) p1]; exact (e4 s hs z).1 i hi
        · by_cases p1 : r = t
          · rw [p1, pk_us]; exact fun q => z q.symm
          · rw [pk_un p1]; exact (e4 s hs z).2 r hr hne
  · unfold hq_ec at gEc ⊢
    rw [← gEc.1, ← gEc.2]
    refine ⟨hq_cn_congr fun i hi => ?_, hq_cn_congr fun i hi => ?_⟩
    · by_cases e : i = o
      · rw [Bool.eq_iff_iff, hq_ce_iff, hq_ce_iff, h0, e, hk2]
        constructor
        · exact fun z => absurd z.1 (by decide)
        · exact fun z => absurd z.1 (by decide)
      · unfold hq_ce; rw [h0, f2 i 5 (by omega) e]
    · by_cases e : i = o
      · rw [Bool.eq_iff_iff, hq_cd_iff, hq_cd_iff, h0, h2, e, hv1]
        constructor
        · exact fun z => absurd rfl z.2.1
        · exact fun z => absurd rfl z.2.1
      · unfold hq_cd; rw [h0, h2, f2 i 5 (by omega) e]
  · intro s hs
    by_cases e : s = t
    · subst e; rw [pk_us, hq_i24]; exact fun z => by omega
    · rw [pk_un e]; exact gRm s hs
  · refine hc_vr (ops := ops) ?_ h2
    intro s hs
    by_cases e : s = t
    · subst e; rw [pk_us, hq_i24]; exact fun z => by omega
    · rw [pk_un e]; exact gVr s hs
theorem hm_scan {j : Nat} (R : hq_RR k ls ll H T L tm cnt fc lim thr cel cN cX cV cS cO fs hz ph oo rA rB rC m vr pc sR sC rt rn ops lo a b c s0 s1 sp lb fa ow) (ht : t < 4) (h22 : (ph t).toInt = 22) (hj : j < 8) (hjs : sC t = nI j) (hx : x = if j = 7 then 23 else 22)
    {y : Int32} (hy : y = if j % 2 = 0 then s0 (j / 2) else s1 (j / 2)) :
    hq_RR k ls ll H T L tm cnt fc lim thr cel cN cX cV cS cO fs hz (upd ph t x) oo rA rB rC m vr pc (upd sR (8 * t + j) (hz j)) (upd sC t (nI (j + 1))) rt rn ops lo a b c s0 s1 (upd sp (8 * t + j) y) lb fa ow := by
  obtain ⟨hoc', hob'⟩ : ∃ o, o < cnt ∧ oo t = nI o ∧ hq_OB t (ph t).toInt (hq_f ops o 0) (hq_f ops o 1) (hq_f ops o 2) (hq_f ops o 3) (hq_f ops o 5) := R.2.2.2.2.2.2.2.2.2.2.2.1.1 t ht (by omega)
  obtain ⟨gSc, gLo, gRe, gHp, gLb, gFr, gPr, gCt, gRt, gHz, gSn, gOp, gLn, gEc, gRm, gVr⟩ := R
  have hx2 : (j = 7 ∧ x.toInt = 23) ∨ (j ≠ 7 ∧ x.toInt = 22) := by
    rw [hx]
    by_cases e : j = 7
    · rw [if_pos e]; exact Or.inl ⟨e, hq_i23⟩
    · rw [if_neg e]; exact Or.inr ⟨e, hq_i22⟩
  have epv : ∀ s, hq_pv (upd ph t x) s = hq_pv ph s := hq_pv_eq (by rw [h22]; omega)
  have hsn := gSn t ht
  have hlo := gLo t ht
  rw [h22] at hsn hlo
  have hL := gLo (j / 2) (by omega)
  have hyr : -1 ≤ y.toInt ∧ y.toInt ≤ L := by
    have hL := hq_LO_rg hL
    rw [hy]
    split <;> omega
  have hsj : (nI j).toInt = j := nI_toInt (by omega)
  have hsj1 : (nI (j + 1)).toInt = ((j + 1 : Nat) : Int) := nI_toInt (by omega)
  refine ⟨gSc, ?_, ?_, gHp, gLb, gFr, ?_, ?_, gRt, ?_, ?_, ?_, gLn, gEc, ?_, ?_⟩
  · intro s hs
    by_cases e : s = t
    · subst e; rw [pk_us]; exact hq_LO_0 (by omega) (hq_LO_rg hlo)
    · rw [pk_un e]; exact gLo s hs
  · obtain ⟨e1, e2, e3, e4, e5, e6, e7, e8⟩ := gRe
    refine ⟨e1, e2, e3, e4, e5, e6, fun i hi => ?_, fun i hi => ?_⟩
    · by_cases e : i = 8 * t + j
      · rw [e, pk_us, pk_us, hy]
        by_cases q : j % 2 = 0
        · rw [if_pos q, ← e5 (j / 2) (by omega)]; exact congrArg hz (by omega)
        · rw [if_neg q, ← e6 (j / 2) (by omega)]; exact congrArg hz (by omega)
      · rw [pk_un e, pk_un e]; exact e7 i hi
    · by_cases e : i = 8 * t + j
      · rw [e, pk_us]; omega
      · rw [pk_un e]; exact e8 i hi
  · exact ⟨fun s hs z => gPr.1 s hs (by rw [← epv]; exact z), fun s r hs hr z1 z2 => gPr.2 s r hs hr (by rw [← epv]; exact z1) (by rw [← epv]; exact z2)⟩
  · unfold hq_ct
    rw [hq_cn_congr (fun s _ => epv s)]
    exact gCt
  · have key : ∀ q n, q < 8 → n ≤ L → (q = j → y = nI n) → hq_PR H L sC sp fa ow q n → hq_PR H L (upd sC t (nI (j + 1))) (upd sp (8 * t + j) y) fa ow q n := by
      intro q n hq hn hqj hp
      refine ⟨hp.1, fun z1 z2 o ho z3 z4 => ?_⟩
      by_cases e : o = t
      · subst e
        rw [pk_us, hsj1] at z4
        by_cases e2 : q = j
        · rw [e2, pk_us]; exact hqj e2
        · rw [pk_un (by omega)]
          exact hp.2 z1 z2 o ho z3 (by rw [hjs, hsj]; omega)
      · rw [pk_un e] at z4
        rw [pk_un (by omega)]
        exact hp.2 z1 z2 o ho z3 z4
    intro s hs
    by_cases e : s = t
    · subst e; rw [pk_us]; exact ⟨fun z => by omega, fun z => by omega⟩
    · rw [pk_un e]
      have hLs := gLo s hs
      unfold hq_LO at hLs
      refine ⟨fun z n hn en => key _ n (by omega) hn (fun q => ?_) ((gHz s hs).1 z n hn en), fun z n hn en => key _ n (by omega) hn (fun q => ?_) ((gHz s hs).2 z n hn en)⟩
      · rw [hy, if_pos (by omega), show j / 2 = s by omega, ← en]
        exact hq_inj (by omega)
      · rw [hy, if_neg (by omega), show j / 2 = s by omega, ← en]
        exact hq_inj (by omega)
  · intro s hs
    by_cases e : s = t
    · subst e
      rw [pk_us, pk_us, hsj1]
      refine ⟨by unfold hq_SN; omega, fun i hi => ?_⟩
      by_cases e2 : i = j
      · subst e2
        rw [pk_us]
        constructor
        · intro z; rw [z, hq_im2] at hyr; omega
        · intro z; omega
      · rw [pk_un (by omega), hsn.2 i hi, hjs, hsj]
        omega
    · rw [pk_un e, pk_un e]
      refine ⟨(gSn s hs).1, fun i hi => ?_⟩
      rw [pk_un (by omega)]
      exact (gSn s hs).2 i hi
  · obtain ⟨e1, e2, e3, e4⟩ := gOp
    refine ⟨fun s hs => ?_, fun i hi z => ?_, e3, e4⟩
    · by_cases e : s = t
      · subst e
        rw [pk_us]
        intro _
        obtain ⟨ho, hoo, hob⟩ := hob'
        refine ⟨hoc', ho, hoo, ?_⟩
        rw [h22] at hob
        obtain ⟨q1, q2, q3, q4, q5, q6, q7, q8⟩ := hob
        exact ⟨q1, q2, q3, fun z => by omega, fun _ z => by omega, fun z => by omega, fun _ z => by omega, fun _ _ => q8 (by omega) (by omega)⟩
      · rw [pk_un e]; exact e1 s hs
    · obtain ⟨s, hs, y1, y2, y3⟩ := e2 i hi z
      refine ⟨s, hs, y1, ?_, y3⟩
      by_cases e : s = t
      · rw [e, pk_us]; omega
      · rw [pk_un e]; exact y2
  · intro s hs
    by_cases e : s = t
    · subst e; rw [pk_us]; exact fun z => by omega
    · rw [pk_un e]; exact gRm s hs
  · intro s hs
    by_cases e : s = t
    · subst e; rw [pk_us]; exact fun z => by omega
    · rw [pk_un e]; exact gVr s hs
theorem hm_begin {ops' : Nat → Int32} {kd vl : Int32} (R : hq_RR k ls ll H T L tm cnt fc lim thr cel cN cX cV cS cO fs hz ph oo rA rB rC m vr pc sR sC rt rn ops lo a b c s0 s1 sp lb fa ow) (ht : t < 4) (hp : (ph t).toInt = 0) (hc : cnt < lim)
    (f2 : ∀ i g, i < 64 → g < 7 → i ≠ cnt → hq_f ops' i g = hq_f ops i g) (k0 : hq_f ops' cnt 0 = kd) (k1 : hq_f ops' cnt 1 = nI t) (k2 : hq_f ops' cnt 2 = vl) (k3 : hq_f ops' cnt 3 = 0) (k5 : hq_f ops' cnt 5 = 0)
    (hx : (x.toInt = 1 ∧ kd = 1 ∧ 0 ≤ vl.toInt) ∨ (x.toInt = 11 ∧ kd = 2 ∧ vl = -1) ∨ (x.toInt = 22 ∧ kd = 3)) :
    hq_RR k ls ll H T L tm (cnt + 1) fc lim thr cel cN cX cV cS cO fs hz (upd ph t x) (upd oo t (nI cnt)) rA rB rC m vr pc sR sC rt rn ops' lo a b c s0 s1 sp lb fa ow := by
  obtain ⟨gSc, gLo, gRe, gHp, gLb, gFr, gPr, gCt, gRt, gHz, gSn, gOp, gLn, gEc, gRm, gVr⟩ := R
  have hpx : x.toInt = 1 ∨ x.toInt = 11 ∨ x.toInt = 22 := by omega
  have h64 : cnt < 64 ∧ L ≤ 64 := by unfold hq_sc at gSc; omega
  have epv : ∀ s, hq_pv (upd ph t x) s = hq_pv ph s := hq_pv_eq (by rw [hp]; omega)
  have hsn := gSn t ht
  have hlo := gLo t ht
  rw [hp] at hsn hlo
  have hv : ∀ n, 1 ≤ n → n ≤ L → hq_vl ops' lb n = hq_vl ops lb n := by
    intro n z1 z2
    obtain ⟨o', ho', y1, y2, _⟩ := gLb n z1 z2
    unfold hq_vl
    rw [y1, nI_clamp (by omega)]
    exact f2 _ _ (by omega) (by omega) (by omega)
  have h5 : ∀ i, i < cnt → hq_f ops' i 5 = hq_f ops i 5 := fun i hi => f2 i 5 (by omega) (by omega) (by omega)
  refine ⟨?_, ?_, gRe, hc_hp gHp hv, ?_, gFr, ?_, ?_, gRt, ?_, ?_, ?_, ?_, ?_, ?_, ?_⟩
  · unfold hq_sc at gSc ⊢; omega
  · intro s hs
    by_cases e : s = t
    · subst e; rw [pk_us]; exact hq_LO_0 (by omega) (hq_LO_rg hlo)
    · rw [pk_un e]; exact gLo s hs
  · intro n z1 z2
    obtain ⟨o', ho', y1, y2, y3⟩ := gLb n z1 z2
    exact ⟨o', by omega, y1, by rw [f2 o' 0 (by omega) (by omega) (by omega)]; exact y2, by rw [h5 o' ho']; exact y3⟩
  · refine ⟨fun s hs z => ?_, fun s r hs hr z1 z2 => gPr.2 s r hs hr (by rw [← epv]; exact z1) (by rw [← epv]; exact z2)⟩
    rw [epv] at z
    obtain ⟨d, y1, y2, y3, y4, y5, y6⟩ := gPr.1 s hs z
    rw [hq_pv_iff] at z
    have hst : s ≠ t := fun q => by rw [q] at z; omega
    obtain ⟨o', ho', q1, q2⟩ := gOp.1 s hs (by omega)
    refine ⟨d, y1, y2, y3, y4, ?_, y6⟩
    rw [pk_un hst, y5, q1, nI_clamp (by omega)]
    exact (f2 o' 2 (by omega) (by omega) (by omega)).symm
  · unfold hq_ct
    rw [hq_cn_congr (fun s _ => epv s)]
    exact gCt
  · intro s hs
    by_cases e : s = t
    · subst e; rw [pk_us]; exact ⟨fun z => by omega, fun z => by omega⟩
    · rw [pk_un e]; exact gHz s hs
  · intro s hs
    by_cases e : s = t
    · subst e; rw [pk_us]; refine ⟨?_, hsn.2⟩; have := hsn.1; unfold hq_SN at this ⊢; omega
    · rw [pk_un e]; exact gSn s hs
  · obtain ⟨e1, e2, e3, e4⟩ := gOp
    refine ⟨fun s hs => ?_, fun i hi z => ?_, fun i hi hi2 => ?_, fun i hi z => ?_⟩
    · by_cases e : s = t
      · subst e
        rw [pk_us, pk_us]
        intro _
        refine ⟨cnt, by omega, rfl, ?_⟩
        rw [k0, k1, k2, k3, k5]
        unfold hq_OB
        rcases hx with ⟨q1, q2, q3⟩ | ⟨q1, q2, q3⟩ | ⟨q1, q2⟩
        · exact ⟨rfl, rfl, Or.inl q2, fun _ => q2, fun z => by omega, fun _ => rfl, fun z => by omega, fun z => by omega⟩
        · exact ⟨rfl, rfl, Or.inr (Or.inl q2), fun z => by omega, fun _ _ => q2, fun _ => rfl, fun _ _ => ⟨rfl, q3⟩, fun z => by omega⟩
        · exact ⟨rfl, rfl, Or.inr (Or.inr q2), fun z => by omega, fun _ z => by omega, fun _ => rfl, fun _ z => by omega, fun _ _ _ => rfl⟩
      · rw [pk_un e, pk_un e]
        intro hps
        obtain ⟨o', ho', y1, y2⟩ := e1 s hs hps
        refine ⟨o', by omega, y1, ?_⟩
        rw [f2 o' 0 (by omega) (by omega) (by omega), f2 o' 1 (by omega) (by omega) (by omega), f2 o' 2 (by omega) (by omega) (by omega), f2 o' 3 (by omega) (by omega) (by omega), f2 o' 5 (by omega) (by omega) (by omega)]
        exact y2
    · by_cases e : i = cnt
      · exact ⟨t, ht, by rw [e]; exact k1, by rw [pk_us]; omega, by rw [pk_us, e]⟩
      · rw [f2 i 3 (by omega) (by omega) e] at z
        obtain ⟨s, hs, y1, y2, y3⟩ := e2 i (by omega) z
        have hst : s ≠ t := fun q => y2 (by rw [q]; exact hp)
        exact ⟨s, hs, by rw [f2 i 1 (by omega) (by omega) e]; exact y1, by rw [pk_un hst]; exact y2, by rw [pk_un hst]; exact y3⟩
    · rw [f2 i 5 hi2 (by omega) (by omega), f2 i 6 hi2 (by omega) (by omega)]; exact e3 i (by omega) hi2
    · by_cases e : i = cnt
      · rw [e, k0] at z
        rw [e, k2]
        rcases hx with ⟨q1, q2, q3⟩ | ⟨q1, q2, q3⟩ | ⟨q1, q2⟩
        · exact q3
        · rw [q2] at z; exact absurd z (by decide)
        · rw [q2] at z; exact absurd z (by decide)
      · rw [f2 i 0 (by omega) (by omega) e] at z
        rw [f2 i 2 (by omega) (by omega) e]
        exact e4 i (by omega) z
  · obtain ⟨e1, e2, e3, e4, e5, e6, e7⟩ := gLn
    refine ⟨fun i hi => ?_, fun i j hi hj z1 z2 => ?_, e3, fun s hs z => ⟨fun i hi => ?_, (e4 s hs z).2⟩, e5, ?_, fun i => ?_⟩
    · by_cases e : i = cnt
      · rw [e, k5, hq_i0]; omega
      · rw [h5 i (by omega)]; exact e1 i (by omega)
    · have p1 : i ≠ cnt := fun q => z1 (by rw [q]; exact k5)
      have p2 : j ≠ cnt := fun q => z1 (by rw [z2, q]; exact k5)
      rw [h5 i (by omega)] at z1 z2
      rw [h5 j (by omega)] at z2
      exact e2 i j (by omega) (by omega) z1 z2
    · by_cases e : i = cnt
      · rw [e, k5]; exact fun q => z q.symm
      · rw [h5 i (by omega)]; exact (e4 s hs z).1 i (by omega)
    · refine List.Pairwise.imp_of_mem ?_ e6
      intro i j hi hj hij
      rw [h5 i ((e7 i).mp hi).1, h5 j ((e7 j).mp hj).1]
      exact hij
    · rw [e7 i]
      constructor
      · exact fun z => ⟨by omega, by rw [h5 i z.1]; exact z.2⟩
      · intro z
        have p1 : i ≠ cnt := fun q => z.2 (by rw [q]; exact k5)
        exact ⟨by omega, by rw [← h5 i (by omega)]; exact z.2⟩
  · unfold hq_ec at gEc ⊢
    simp only [hq_cn]
    rw [if_neg (by rw [hq_ce_iff, k5]; exact fun z => z.2 rfl), if_neg (by rw [hq_cd_iff, k5]; exact fun z => z.2.2 rfl)]
    rw [← gEc.1, ← gEc.2]
    refine ⟨hq_cn_congr fun i hi => ?_, hq_cn_congr fun i hi => ?_⟩
    · unfold hq_ce; rw [h5 i hi, f2 i 0 (by omega) (by omega) (by omega)]
    · unfold hq_cd; rw [h5 i hi, f2 i 0 (by omega) (by omega) (by omega), f2 i 2 (by omega) (by omega) (by omega)]
  · intro s hs
    by_cases e : s = t
    · subst e; rw [pk_us]; exact fun z => by omega
    · rw [pk_un e]; exact gRm s hs
  · intro s hs
    by_cases e : s = t
    · subst e; rw [pk_us]; exact fun z => by omega
    · rw [pk_un e]
      intro hps n hn en
      have hL := gLo s hs
      unfold hq_LO at hL
      have e' : (c s).toInt = n := by rw [en, nI_toInt (by omega)]
      rw [hv n (by omega) (by omega)]
      exact gVr s hs hps n hn en
end
end
section
/-! moves of the relation: the great ones -/
section
variable {k : Nat → Nat} {ls : Nat → List Nat} {ll : List Nat} {H T L tm cnt fc lim thr cel : Nat} {cN cX cV cS cO fs hz ph oo rA rB rC m vr pc sR sC rt rn ops lo a b c s0 s1 sp lb fa ow : Nat → Int32} {t : Nat} {x : Int32}
theorem hm_len (R : hq_RR k ls ll H T L tm cnt fc lim thr cel cN cX cV cS cO fs hz ph oo rA rB rC m vr pc sR sC rt rn ops lo a b c s0 s1 sp lb fa ow) (ht : t < 4) : (ls t).length + 1 ≤ 16 ∧ (ls t).length = hq_cn (hq_rb H fa ow t) 65 := by
  obtain ⟨gSc, gLo, gRe, gHp, gLb, gFr, gPr, gCt, gRt, gHz, gSn, gOp, gLn, gEc, gRm, gVr⟩ := R
  unfold hq_sc at gSc
  obtain ⟨h1, h2, h3, h4⟩ := gRt t ht
  have e : (ls t).length = hq_cn (hq_rb H fa ow t) 65 := hq_cn_list h1 (fun i => by
    rw [h2 i]
    constructor
    · exact fun z => ⟨by rw [hq_rb_iff] at z; omega, z⟩
    · exact fun z => z.2)
  have e2 : hq_cn (hq_rb H fa ow t) 65 + 1 ≤ hq_cn (hq_hl H L fa) 65 := hq_cn_lt (k := H) (by omega)
    (by rw [Bool.eq_false_iff]; intro z; rw [hq_rb_iff] at z; omega) (by rw [hq_hl_iff]; exact ⟨by omega, Or.inl (Nat.le_refl _)⟩)
    (fun i _ z => by rw [hq_rb_iff] at z; rw [hq_hl_iff]; exact ⟨by omega, Or.inr (Or.inr z.2.1)⟩)
  unfold hq_ct at gCt
  omega
/-- two nodes in cells are in two cells -/
theorem hm_kinj (gSc : hq_sc H T L tm cnt lim thr cel) (gHp : hq_hp k H L cN cX cV cS cO ops lb fa ow) {n n' : Nat} (h : hq_hl H L fa n = true) (h' : hq_hl H L fa n' = true) (hne : n ≠ n') : k n ≠ k n' := by
  intro e
  have h1 := (gHp.1 n h).1
  have h2 := (gHp.1 n' h').1
  unfold hq_sc at gSc
  have z1 := (hq_hl_iff.mp h).1
  have z2 := (hq_hl_iff.mp h').1
  rw [e, h2, nI_eq (by omega) (by omega)] at h1
  exact hne h1.symm
/-- a node's cell is not a cell without number -/
theorem hm_kd (gSc : hq_sc H T L tm cnt lim thr cel) (gHp : hq_hp k H L cN cX cV cS cO ops lb fa ow) {n d : Nat} (h : hq_hl H L fa n = true) (hd : cN d = -1) : k n ≠ d := by
  intro e
  have h1 := (gHp.1 n h).1
  unfold hq_sc at gSc
  have z1 := (hq_hl_iff.mp h).1
  rw [e, hd] at h1
  exact hq_m1n (by omega) h1
theorem hm_link {o d : Nat} {ll' : List Nat} {lo' : Nat → Int32} (R : hq_RR k ls ll H T L tm cnt fc lim thr cel cN cX cV cS cO fs hz ph oo rA rB rC m vr pc sR sC rt rn ops lo a b c s0 s1 sp lb fa ow) (ht : t < 4) (h9 : (ph t).toInt = 9) (ho : o < 64) (hoo : oo t = nI o) (hd : d < 16) (hpc : pc t = nI d) (ha : a t = nI L)
    (hfl : ∀ i, i < cnt → (hq_f ops i 5).toInt < tm) (hfm : ∀ s, s < 4 → (m s).toInt < tm)
    (hli : hq_li ll' cnt (upd ops (7 * o + 5) (nI tm)) lo') :
    hq_RR (hq_un k (L + 1) d) ls ll' H T (L + 1) tm cnt fc lim thr cel (upd cN d (nI (L + 1))) (upd cX (k L) (nI (16 * (L + 1) + d))) cV (upd cS d 1) cO fs hz (upd ph t 10) oo rA rB rC m vr (upd pc t (-1)) sR sC rt rn (upd ops (7 * o + 5) (nI tm)) lo' a b c s0 s1 sp (upd lb (L + 1) (nI o)) fa ow := by
  obtain ⟨hoc, hob⟩ := hm_o R ht (by omega) ho hoo
  obtain ⟨gSc, gLo, gRe, gHp, gLb, gFr, gPr, gCt, gRt, gHz, gSn, gOp, gLn, gEc, gRm, gVr⟩ := R
  have gSc' := gSc
  unfold hq_sc at gSc'
  have f1 : ∀ i g, g < 7 → g ≠ 5 → hq_f (upd ops (7 * o + 5) (nI tm)) i g = hq_f ops i g := fun i g h0 h1 => by
    rw [hq_fn (by omega) h0 (Or.inr h1)]
  have f2 : ∀ i g, g < 7 → i ≠ o → hq_f (upd ops (7 * o + 5) (nI tm)) i g = hq_f ops i g := fun i g h0 h1 => by
    rw [hq_fn (by omega) h0 (Or.inl h1)]
  have f3 : hq_f (upd ops (7 * o + 5) (nI tm)) o 5 = nI tm := hq_fs
  generalize upd ops (7 * o + 5) (nI tm) = ops' at f1 f2 f3 hli ⊢
  have h0 : ∀ i, hq_f ops' i 0 = hq_f ops i 0 := fun i => f1 i 0 (by omega) (by omega)
  have h2 : ∀ i, hq_f ops' i 2 = hq_f ops i 2 := fun i => f1 i 2 (by omega) (by omega)
  rw [h9] at hob
  have hk1 : hq_f ops o 0 = 1 := hob.2.2.2.1 (by omega)
  have hl0 : hq_f ops o 5 = 0 := hob.2.2.2.2.2.1 (by omega)
  have htm : 1 ≤ tm := by have := hfl o hoc; rw [hl0, hq_i0] at this; omega
  have htm0 : nI tm ≠ 0 := nI_ne0 htm (by omega)
  have htmi : (nI tm).toInt = tm := nI_toInt (by omega)
  have hL64 : L + 1 ≤ 64 := by
    have e := hq_cn_lt (p := hq_ce ops) (q := fun _ => true) hoc (by rw [Bool.eq_false_iff]; intro z; rw [hq_ce_iff] at z; exact z.2 hl0) rfl (fun _ _ _ => rfl)
    have e2 := hq_cn_le (fun _ => true) cnt
    unfold hq_ec at gEc
    omega
  have hpvt : hq_pv ph t = true := by rw [hq_pv_iff]; omega
  obtain ⟨d', hd', p1, p2, p3, p4, p5⟩ := gPr.1 t ht hpvt
  rw [hpc, nI_eq (by omega) (by omega)] at p1
  subst p1
  rw [hoo, nI_clamp (by omega)] at p4
  have hHL : hq_hl H L fa L = true := by rw [hq_hl_iff]; exact ⟨Nat.le_refl _, Or.inl (by omega)⟩
  have hkd : ∀ n, hq_hl H L fa n = true → k n ≠ d := fun n hn => hm_kd gSc gHp hn p2
  have hk' : ∀ n, n ≤ L → hq_un k (L + 1) d n = k n := fun n hn => hq_un_n (by omega)
  have hks : hq_un k (L + 1) d (L + 1) = d := hq_un_s
  generalize hq_un k (L + 1) d = k' at hk' hks ⊢
  have hl' : ∀ n, n ≠ L + 1 → hq_hl H (L + 1) fa n = hq_hl H L fa n := by
    intro n hn
    rw [Bool.eq_iff_iff, hq_hl_iff, hq_hl_iff]
    constructor
    · exact fun z => ⟨by omega, z.2⟩
    · exact fun z => ⟨by omega, z.2⟩
  have hlL : hq_hl H (L + 1) fa (L + 1) = true := by rw [hq_hl_iff]; exact ⟨Nat.le_refl _, Or.inl (by omega)⟩
  have hlo := gLo t ht
  have hsn := gSn t ht
  rw [h9] at hlo hsn
  have hai : (a t).toInt = L := by rw [ha, nI_toInt (by omega)]
  refine ⟨?_, ?_, ?_, ?_, ?_, ?_, ?_, ?_, ?_, ?_, ?_, ?_, ?_, ?_, ?_, ?_⟩
  · unfold hq_sc; omega
  · intro s hs
    by_cases e : s = t
    · subst e; rw [pk_us, hq_i10]; unfold hq_LO at hlo ⊢; omega
    · rw [pk_un e]; exact hq_LO_mono (gLo s hs) (by omega) (Nat.le_refl _) (Nat.le_refl _)
  · obtain ⟨e1, e2, e3, e4, e5, e6, e7, e8⟩ := gRe
    have rk : ∀ x : Int32, x.toInt ≤ L → hq_rf k' x = hq_rf k x := fun x hx => hq_rf_k hk' hx
    refine ⟨fun n hn => ?_, fun i hi => ?_, fun i hi => ?_, fun i hi => ?_, fun i hi => ?_, fun i hi => ?_, fun i hi => ?_, fun i hi => ?_⟩
    · by_cases q : n = L + 1
      · rw [q, hks]; exact hd
      · rw [hk' n (by omega)]; exact e1 n (by omega)
    · have := hq_LO_rg (gLo i hi); rw [rk _ (by omega)]; exact e2 i hi
    · have := hq_LO_rg (gLo i hi); rw [rk _ (by omega)]; exact e3 i hi
    · have := hq_LO_rg (gLo i hi); rw [rk _ (by omega)]; exact e4 i hi
    · have := hq_LO_rg (gLo i hi); rw [rk _ (by omega)]; exact e5 i hi
    · have := hq_LO_rg (gLo i hi); rw [rk _ (by omega)]; exact e6 i hi
    · rw [rk _ (e8 i hi).2]; exact e7 i hi
    · have := e8 i hi; omega
  · obtain ⟨g1, g2, g3⟩ := gHp
    refine ⟨fun n hn => ?_, fun q hq => ?_, g3⟩
    · by_cases e : n = L + 1
      · subst e
        rw [hks, pk_us, pk_un (fun z => hkd L hHL z.symm), if_neg (Nat.lt_irrefl _)]
        refine ⟨rfl, p3, fun z => by omega, fun _ => ?_⟩
        rw [p4]
        unfold hq_vl
        rw [pk_us, nI_clamp (by omega), h2]
      · rw [hl' n e] at hn
        have hnL := (hq_hl_iff.mp hn).1
        obtain ⟨y1, y2, y3, y4⟩ := g1 n hn
        rw [hk' n hnL, pk_un (hkd n hn), pk_un (hkd n hn), if_pos (show n < L + 1 by omega)]
        refine ⟨y1, ?_, y3, fun z => ?_⟩
        · by_cases q : n = L
          · subst q
            rw [pk_us, hq_rf_n (by omega), hks]
          · rw [pk_un (hm_kinj gSc ⟨g1, g2, g3⟩ hn hHL q), y2, if_pos (by omega)]
            exact (hq_rf_k hk' (by rw [nI_toInt (by omega)]; omega)).symm
        · rw [y4 z]
          unfold hq_vl
          rw [pk_un e, h2]
    · by_cases e : q = d
      · exact Or.inr ⟨L + 1, hlL, by rw [hks, e]⟩
      · rw [pk_un e]
        rcases g2 q hq with z | ⟨n, z1, z2⟩
        · exact Or.inl z
        · have hnL := (hq_hl_iff.mp z1).1
          exact Or.inr ⟨n, by rw [hl' n (by omega)]; exact z1, by rw [hk' n hnL]; exact z2⟩
  · intro n z1 z2
    by_cases e : n = L + 1
    · subst e
      exact ⟨o, hoc, pk_us, by rw [h0]; exact hk1, by rw [f3]; exact htm0⟩
    · obtain ⟨o', ho', y1, y2, y3⟩ := gLb n z1 (by omega)
      refine ⟨o', ho', by rw [pk_un e]; exact y1, by rw [h0]; exact y2, ?_⟩
      by_cases q : o' = o
      · rw [q, f3]; exact htm0
      · rw [f2 o' 5 (by omega) q]; exact y3
  · refine ⟨fun i hi => ?_, gFr.2⟩
    obtain ⟨d', y1, y2, y3⟩ := gFr.1 i hi
    have hne : d' ≠ d := fun q => p5 i hi (by rw [y2, q])
    exact ⟨d', y1, y2, by rw [pk_un hne]; exact y3⟩
  · have key : ∀ s, hq_pv (upd ph t 10) s = true → s ≠ t ∧ hq_pv ph s = true := by
      intro s z
      have e : s ≠ t := by
        intro q
        rw [q, hq_pv_s, hq_i10] at z
        omega
      rw [hq_pv_n e] at z
      exact ⟨e, z⟩
    refine ⟨fun s hs z => ?_, fun s r hs hr z1 z2 e => ?_⟩
    · obtain ⟨e, zz⟩ := key s z
      obtain ⟨d', y1, y2, y3, y4, y5, y6⟩ := gPr.1 s hs zz
      have hne : d' ≠ d := fun q => e (gPr.2 s t hs ht zz hpvt (by rw [y2, hpc, q]))
      exact ⟨d', y1, by rw [pk_un e]; exact y2, by rw [pk_un hne]; exact y3, by rw [pk_un (fun q => hm_kd gSc gHp hHL y3 q.symm)]; exact y4, by rw [h2]; exact y5, y6⟩
    · obtain ⟨q1, w1⟩ := key s z1
      obtain ⟨q2, w2⟩ := key r z2
      rw [pk_un q1, pk_un q2] at e
      exact gPr.2 s r hs hr w1 w2 e
  · unfold hq_ct at gCt ⊢
    have c1 : hq_cn (hq_hl H (L + 1) fa) 65 = hq_cn (hq_hl H L fa) 65 + 1 := hq_cn_flip (k := L + 1) (by omega) (by
      rw [Bool.eq_false_iff]; intro z; rw [hq_hl_iff] at z; omega) hlL (fun i _ hi => hl' i hi)
    have c2 : hq_cn (hq_pv ph) 4 = hq_cn (hq_pv (upd ph t 10)) 4 + 1 := hq_cn_flip ht (by
      rw [Bool.eq_false_iff]; intro z; rw [hq_pv_s, hq_i10] at z; omega) hpvt (fun i _ hi => (hq_pv_n hi).symm)
    omega
  · intro s hs
    obtain ⟨y1, y2, y3, y4⟩ := gRt s hs
    refine ⟨y1, y2, y3, fun i n z => ?_⟩
    have := (y2 n).mp (List.mem_of_getElem? z)
    rw [hq_rb_iff] at this
    rw [hk' n (by omega)]
    exact y4 i n z
  · intro s hs
    by_cases e : s = t
    · subst e; rw [pk_us, hq_i10]; exact ⟨fun z => by omega, fun z => by omega⟩
    · rw [pk_un e]
      have hL := hq_LO_rg (gLo s hs)
      refine ⟨fun z n hn en => ?_, fun z n hn en => ?_⟩
      · have en' : (a s).toInt = n := by rw [en, nI_toInt (by omega)]
        have := (gHz s hs).1 z n (by omega) en
        exact ⟨by rw [hl' n (by omega)]; exact this.1, this.2⟩
      · have en' : (c s).toInt = n := by rw [en, nI_toInt (by omega)]
        have := (gHz s hs).2 z n (by omega) en
        exact ⟨by rw [hl' n (by omega)]; exact this.1, this.2⟩
  · intro s hs
    by_cases e : s = t
    · subst e; rw [pk_us, hq_i10]; refine ⟨?_, hsn.2⟩; have := hsn.1; unfold hq_SN at this ⊢; omega
    · rw [pk_un e]; exact gSn s hs
  · obtain ⟨e1, e2, e3, e4⟩ := gOp
    refine ⟨fun s hs => ?_, fun i hi z => ?_, fun i hi hi2 => ?_, fun i hi z => ?_⟩
    · by_cases e : s = t
      · subst e
        rw [pk_us, hq_i10]
        intro _
        refine ⟨o, hoc, hoo, ?_⟩
        unfold hq_OB at hob ⊢
        obtain ⟨q1, q2, q3, q4, q5, q6, q7, q8⟩ := hob
        rw [h0, f1 o 1 (by omega) (by omega), f1 o 3 (by omega) (by omega)]
        exact ⟨q1, q2, q3, fun z => q4 (by omega), fun z => by omega, fun z => by omega, fun z => by omega, fun z => by omega⟩
      · rw [pk_un e]
        intro hp
        obtain ⟨o', ho', y1, y2⟩ := e1 s hs hp
        have hne : o' ≠ o := by
          intro z
          subst z
          have z1 := y2.1
          rw [hob.1, nI_eq (by omega) (by omega)] at z1
          exact e z1.symm
        refine ⟨o', ho', y1, ?_⟩
        rw [f2 o' 0 (by omega) hne, f2 o' 1 (by omega) hne, f2 o' 2 (by omega) hne, f2 o' 3 (by omega) hne, f2 o' 5 (by omega) hne]
        exact y2
    · rw [f1 i 3 (by omega) (by omega)] at z
      obtain ⟨s, hs, y1, y2, y3⟩ := e2 i hi z
      refine ⟨s, hs, by rw [f1 i 1 (by omega) (by omega)]; exact y1, ?_, y3⟩
      by_cases e : s = t
      · rw [e, pk_us, hq_i10]; omega
      · rw [pk_un e]; exact y2
    · rw [f2 i 5 (by omega) (by omega), f2 i 6 (by omega) (by omega)]; exact e3 i hi hi2
    · rw [h2]
      rw [h0] at z
      exact e4 i hi z
  · obtain ⟨e1, e2, e3, e4, e5⟩ := gLn
    refine ⟨fun i hi => ?_, fun i j hi hj z1 z2 => ?_, e3, fun s hs z => ⟨fun i hi => ?_, (e4 s hs z).2⟩, hli⟩
    · by_cases e : i = o
      · rw [e, f3, htmi]; omega
      · rw [f2 i 5 (by omega) e]; exact e1 i hi
    · by_cases p1 : i = o
      · by_cases p2 : j = o
        · rw [p1, p2]
        · rw [p1, f3, f2 j 5 (by omega) p2] at z2
          have := hfl j hj
          rw [← z2, htmi] at this
          omega
      · by_cases p2 : j = o
        · rw [p2, f3, f2 i 5 (by omega) p1] at z2
          have := hfl i hi
          rw [z2, htmi] at this
          omega
        · rw [f2 i 5 (by omega) p1] at z1 z2
          rw [f2 j 5 (by omega) p2] at z2
          exact e2 i j hi hj z1 z2
    · by_cases p1 : i = o
      · rw [p1, f3]
        intro q
        have := hfm s hs
        rw [← q, htmi] at this
        omega
      · rw [f2 i 5 (by omega) p1]; exact (e4 s hs z).1 i hi
  · unfold hq_ec at gEc ⊢
    rw [← gEc.2]
    refine ⟨?_, hq_cn_congr fun i hi => ?_⟩
    · rw [← gEc.1]
      refine hq_cn_flip hoc ?_ ?_ (fun i hi hne => ?_)
      · rw [Bool.eq_false_iff]; intro z; rw [hq_ce_iff] at z; exact z.2 hl0
      · rw [hq_ce_iff, h0, f3]; exact ⟨hk1, htm0⟩
      · unfold hq_ce; rw [h0, f2 i 5 (by omega) hne]
    · by_cases e : i = o
      · rw [Bool.eq_iff_iff, hq_cd_iff, hq_cd_iff, h0, e, hk1]
        constructor
        · exact fun z => absurd z.1 (by decide)
        · exact fun z => absurd z.1 (by decide)
      · unfold hq_cd; rw [h0, h2, f2 i 5 (by omega) e]
  · intro s hs
    by_cases e : s = t
    · subst e; rw [pk_us, hq_i10]; exact fun z => by omega
    · rw [pk_un e]; exact gRm s hs
  · intro s hs
    by_cases e : s = t
    · subst e; rw [pk_us, hq_i10]; exact fun z => by omega
    · rw [pk_un e]
      intro hps n hn en
      have hL := gLo s hs
      unfold hq_LO at hL
      have e' : (c s).toInt = n := by rw [en, nI_toInt (by omega)]
      rw [gVr s hs hps n hn en]
      unfold hq_vl
      rw [pk_un (by omega), h2]
end
end
section
/-! moves of the relation: the head moves on; a removed node is retired -/
section
variable {k : Nat → Nat} {ls : Nat → List Nat} {ll : List Nat} {H T L tm cnt fc lim thr cel : Nat} {cN cX cV cS cO fs hz ph oo rA rB rC m vr pc sR sC rt rn ops lo a b c s0 s1 sp lb fa ow : Nat → Int32} {t : Nat} {x : Int32}
/-- values of nodes are not negative -/
theorem hm_vpos (gSc : hq_sc H T L tm cnt lim thr cel) (gLb : hq_lb L cnt ops lb) (gOp : hq_op cnt ph oo ops) {n : Nat} (h1 : 1 ≤ n) (h2 : n ≤ L) : 0 ≤ (hq_vl ops lb n).toInt := by
  obtain ⟨o, ho, e1, e2, e3⟩ := gLb n h1 h2
  unfold hq_sc at gSc
  unfold hq_vl
  rw [e1, nI_clamp (by omega)]
  exact gOp.2.2.2 o ho e2
theorem hm_swap {o : Nat} {w : Int32} {ll' : List Nat} {lo' : Nat → Int32} (R : hq_RR k ls ll H T L tm cnt fc lim thr cel cN cX cV cS cO fs hz ph oo rA rB rC m vr pc sR sC rt rn ops lo a b c s0 s1 sp lb fa ow) (ht : t < 4) (h20 : (ph t).toInt = 20) (ho : o < 64) (hoo : oo t = nI o) (ha : a t = nI H) (hw : w = vr t)
    (hfl : ∀ i, i < cnt → (hq_f ops i 5).toInt < tm) (hfm : ∀ s, s < 4 → (m s).toInt < tm)
    (hli : hq_li ll' cnt (upd (upd ops (7 * o + 2) w) (7 * o + 5) (nI tm)) lo') :
    hq_RR k ls ll' (H + 1) T L tm cnt fc lim thr cel cN cX cV (upd cS (k H) 2) (upd cO (k H) (nI t)) fs hz (upd ph t 21) oo rA rB rC m vr pc sR sC rt rn (upd (upd ops (7 * o + 2) w) (7 * o + 5) (nI tm)) lo' a b c s0 s1 sp lb (upd fa H 2) (upd ow H (nI t)) := by
  obtain ⟨hoc, hob⟩ := hm_o R ht (by omega) ho hoo
  obtain ⟨gSc, gLo, gRe, gHp, gLb, gFr, gPr, gCt, gRt, gHz, gSn, gOp, gLn, gEc, gRm, gVr⟩ := R
  have gSc' := gSc
  unfold hq_sc at gSc'
  have f1 : ∀ i g, g < 7 → g ≠ 5 → g ≠ 2 → hq_f (upd (upd ops (7 * o + 2) w) (7 * o + 5) (nI tm)) i g = hq_f ops i g := fun i g h0 h1 h2 => by
    rw [hq_fn (by omega) h0 (Or.inr h1), hq_fn (by omega) h0 (Or.inr h2)]
  have f2 : ∀ i g, g < 7 → i ≠ o → hq_f (upd (upd ops (7 * o + 2) w) (7 * o + 5) (nI tm)) i g = hq_f ops i g := fun i g h0 h1 => by
    rw [hq_fn (by omega) h0 (Or.inl h1), hq_fn (by omega) h0 (Or.inl h1)]
  have f3 : hq_f (upd (upd ops (7 * o + 2) w) (7 * o + 5) (nI tm)) o 5 = nI tm := hq_fs
  have f4 : hq_f (upd (upd ops (7 * o + 2) w) (7 * o + 5) (nI tm)) o 2 = w := by
    rw [hq_fn (by omega) (by omega) (Or.inr (by omega)), hq_fs]
  generalize upd (upd ops (7 * o + 2) w) (7 * o + 5) (nI tm) = ops' at f1 f2 f3 f4 hli ⊢
  have h0 : ∀ i, hq_f ops' i 0 = hq_f ops i 0 := fun i => f1 i 0 (by omega) (by omega) (by omega)
  rw [h20] at hob
  have hk2 : hq_f ops o 0 = 2 := hob.2.2.2.2.1 (by omega) (by omega)
  have hl0 : hq_f ops o 5 = 0 := (hob.2.2.2.2.2.2.1 (by omega) (by omega)).1
  have hv1 : hq_f ops o 2 = -1 := (hob.2.2.2.2.2.2.1 (by omega) (by omega)).2
  have hok : ∀ i, hq_f ops i 0 = 1 → hq_f ops' i 2 = hq_f ops i 2 := fun i z => f2 i 2 (by omega) (fun q => by rw [q, hk2] at z; exact absurd z (by decide))
  have hv : ∀ n, 1 ≤ n → n ≤ L → hq_vl ops' lb n = hq_vl ops lb n := by
    intro n z1 z2
    obtain ⟨o', _, y1, y2, _⟩ := gLb n z1 z2
    unfold hq_vl
    rw [y1, nI_clamp (by omega)]
    exact hok _ y2
  have htm : 1 ≤ tm := by have := hfl o hoc; rw [hl0, hq_i0] at this; omega
  have htm0 : nI tm ≠ 0 := nI_ne0 htm (by omega)
  have htmi : (nI tm).toInt = tm := nI_toInt (by omega)
  have hlo := gLo t ht
  have hsn := gSn t ht
  rw [h20] at hlo hsn
  have hai : (a t).toInt = H := by rw [ha, nI_toInt (by omega)]
  have hHT : H + 1 ≤ T := by unfold hq_LO at hlo; omega
  have hci : c t = nI (H + 1) := hq_inj (by rw [nI_toInt (by omega)]; unfold hq_LO at hlo; omega)
  have hwv : w = hq_vl ops lb (H + 1) := by rw [hw]; exact gVr t ht h20 (H + 1) (by omega) hci
  have hw1 : w ≠ -1 := hq_ne (by rw [hq_im1, hwv]; have := hm_vpos gSc gLb gOp (n := H + 1) (by omega) (by omega); omega)
  have hHH : hq_hl H L fa H = true := by rw [hq_hl_iff]; exact ⟨by omega, Or.inl (Nat.le_refl _)⟩
  have hl' : ∀ n, hq_hl (H + 1) L (upd fa H 2) n = hq_hl H L fa n := by
    intro n
    rw [Bool.eq_iff_iff, hq_hl_iff, hq_hl_iff]
    by_cases e : n = H
    · subst e
      rw [pk_us]
      constructor
      · exact fun z => ⟨z.1, Or.inl (Nat.le_refl _)⟩
      · exact fun z => ⟨z.1, Or.inr (Or.inl rfl)⟩
    · rw [pk_un e]
      constructor
      · exact fun z => ⟨z.1, z.2.imp (fun q => by omega) id⟩
      · exact fun z => ⟨z.1, z.2.imp (fun q => by omega) id⟩
  have epv : ∀ s, hq_pv (upd ph t 21) s = hq_pv ph s := hq_pv_eq (by rw [h20, hq_i21]; omega)
  refine ⟨?_, ?_, gRe, ?_, ?_, gFr, ?_, ?_, ?_, ?_, ?_, ?_, ?_, ?_, ?_, ?_⟩
  · unfold hq_sc; omega
  · intro s hs
    by_cases e : s = t
    · subst e; rw [pk_us, hq_i21]; unfold hq_LO at hlo ⊢; omega
    · rw [pk_un e]; exact hq_LO_mono (gLo s hs) (Nat.le_refl _) (by omega) (Nat.le_refl _)
  · obtain ⟨g1, g2, g3⟩ := gHp
    refine ⟨fun n hn => ?_, fun q hq => ?_, fun n hn => ?_⟩
    · rw [hl' n] at hn
      obtain ⟨y1, y2, y3, y4⟩ := g1 n hn
      refine ⟨y1, y2, fun z => ?_, fun z => ?_⟩
      · by_cases e : n = H
        · subst e; rw [pk_us, pk_us, pk_us, pk_us]; exact ⟨rfl, rfl⟩
        · have hne := hm_kinj gSc ⟨g1, g2, g3⟩ hn hHH e
          rw [pk_un hne, pk_un hne, pk_un e, pk_un e]
          exact y3 (by omega)
      · rw [hv n z (hq_hl_iff.mp hn).1]; exact y4 z
    · rcases g2 q hq with z | ⟨n, z1, z2⟩
      · exact Or.inl z
      · exact Or.inr ⟨n, by rw [hl' n]; exact z1, z2⟩
    · by_cases e : n = H
      · subst e; rw [pk_us]; exact Or.inl rfl
      · rw [pk_un e]; exact g3 n (by omega)
  · refine hc_lb gLb (fun i _ => h0 i) (fun i _ z => ?_)
    by_cases e : i = o
    · rw [e, f3]; exact htm0
    · rw [f2 i 5 (by omega) e]; exact z
  · refine ⟨fun s hs z => ?_, fun s r hs hr z1 z2 => gPr.2 s r hs hr (by rw [← epv]; exact z1) (by rw [← epv]; exact z2)⟩
    rw [epv] at z
    obtain ⟨d, y1, y2, y3, y4, y5, y6⟩ := gPr.1 s hs z
    rw [hq_pv_iff] at z
    obtain ⟨o', ho', q1, q2⟩ := gOp.1 s hs (by omega)
    refine ⟨d, y1, y2, y3, y4, ?_, y6⟩
    rw [y5, q1, nI_clamp (by omega)]
    exact (hok _ (q2.2.2.2.1 (by omega))).symm
  · unfold hq_ct
    rw [hq_cn_congr (fun s _ => epv s), hq_cn_congr (fun n _ => hl' n)]
    exact gCt
  · intro s hs
    obtain ⟨y1, y2, y3, y4⟩ := gRt s hs
    refine ⟨y1, fun n => ?_, y3, y4⟩
    rw [y2 n, hq_rb_iff, hq_rb_iff]
    by_cases e : n = H
    · subst e
      rw [pk_us]
      constructor
      · exact fun z => absurd z.1 (Nat.lt_irrefl _)
      · exact fun z => absurd z.2.1 (by decide)
    · rw [pk_un e, pk_un e]
      constructor
      · exact fun z => ⟨by omega, z.2⟩
      · exact fun z => ⟨by omega, z.2⟩
  · have key : ∀ q n, hq_PR H L sC sp fa ow q n → hq_PR (H + 1) L sC sp (upd fa H 2) (upd ow H (nI t)) q n := by
      intro q n hp
      refine ⟨by rw [hl' n]; exact hp.1, fun z1 z2 => ?_⟩
      by_cases e : n = H
      · subst e; rw [pk_us] at z2; exact absurd z2 (by decide)
      · rw [pk_un e] at z2
        rw [pk_un e]
        exact hp.2 (by omega) z2
    intro s hs
    by_cases e : s = t
    · subst e; rw [pk_us, hq_i21]; exact ⟨fun z => by omega, fun z => by omega⟩
    · rw [pk_un e]
      exact ⟨fun z n hn en => key _ _ ((gHz s hs).1 z n hn en), fun z n hn en => key _ _ ((gHz s hs).2 z n hn en)⟩
  · intro s hs
    by_cases e : s = t
    · subst e; rw [pk_us, hq_i21]; refine ⟨?_, hsn.2⟩; have := hsn.1; unfold hq_SN at this ⊢; omega
    · rw [pk_un e]; exact gSn s hs
  · obtain ⟨e1, e2, e3, e4⟩ := gOp
    refine ⟨fun s hs => ?_, fun i hi z => ?_, fun i hi hi2 => ?_, fun i hi z => ?_⟩
    · by_cases e : s = t
      · subst e
        rw [pk_us, hq_i21]
        intro _
        refine ⟨o, hoc, hoo, ?_⟩
        unfold hq_OB at hob ⊢
        obtain ⟨q1, q2, q3, q4, q5, q6, q7, q8⟩ := hob
        rw [h0, f1 o 1 (by omega) (by omega) (by omega), f1 o 3 (by omega) (by omega) (by omega)]
        exact ⟨q1, q2, q3, fun z => by omega, fun _ _ => q5 (by omega) (by omega), fun z => by omega, fun _ z => by omega, fun z => by omega⟩
      · rw [pk_un e]
        intro hp
        obtain ⟨o', ho', y1, y2⟩ := e1 s hs hp
        have hne : o' ≠ o := by
          intro z
          subst z
          have z1 := y2.1
          rw [hob.1, nI_eq (by omega) (by omega)] at z1
          exact e z1.symm
        refine ⟨o', ho', y1, ?_⟩
        rw [f2 o' 0 (by omega) hne, f2 o' 1 (by omega) hne, f2 o' 2 (by omega) hne, f2 o' 3 (by omega) hne, f2 o' 5 (by omega) hne]
        exact y2
    · rw [f1 i 3 (by omega) (by omega) (by omega)] at z
      obtain ⟨s, hs, y1, y2, y3⟩ := e2 i hi z
      refine ⟨s, hs, by rw [f1 i 1 (by omega) (by omega) (by omega)]; exact y1, ?_, y3⟩
      by_cases e : s = t
      · rw [e, pk_us, hq_i21]; omega
      · rw [pk_un e]; exact y2
    · rw [f2 i 5 (by omega) (by omega), f2 i 6 (by omega) (by omega)]; exact e3 i hi hi2
    · rw [h0] at z
      rw [hok i z]
      exact e4 i hi z
  · obtain ⟨e1, e2, e3, e4, e5⟩ := gLn
    refine ⟨fun i hi => ?_, fun i j hi hj z1 z2 => ?_, e3, fun s hs z => ⟨fun i hi => ?_, (e4 s hs z).2⟩, hli⟩
    · by_cases e : i = o
      · rw [e, f3, htmi]; omega
      · rw [f2 i 5 (by omega) e]; exact e1 i hi
    · by_cases p1 : i = o
      · by_cases p2 : j = o
        · rw [p1, p2]
        · rw [p1, f3, f2 j 5 (by omega) p2] at z2
          have := hfl j hj
          rw [← z2, htmi] at this
          omega
      · by_cases p2 : j = o
        · rw [p2, f3, f2 i 5 (by omega) p1] at z2
          have := hfl i hi
          rw [z2, htmi] at this
          omega
        · rw [f2 i 5 (by omega) p1] at z1 z2
          rw [f2 j 5 (by omega) p2] at z2
          exact e2 i j hi hj z1 z2
    · by_cases p1 : i = o
      · rw [p1, f3]
        intro q
        have := hfm s hs
        rw [← q, htmi] at this
        omega
      · rw [f2 i 5 (by omega) p1]; exact (e4 s hs z).1 i hi
  · unfold hq_ec at gEc ⊢
    rw [← gEc.1]
    refine ⟨hq_cn_congr fun i hi => ?_, ?_⟩
    · by_cases e : i = o
      · rw [Bool.eq_iff_iff, hq_ce_iff, hq_ce_iff, h0, e, hk2]
        constructor
        · exact fun z => absurd z.1 (by decide)
        · exact fun z => absurd z.1 (by decide)
      · unfold hq_ce; rw [h0, f2 i 5 (by omega) e]
    · rw [← gEc.2]
      refine hq_cn_flip hoc ?_ ?_ (fun i hi hne => ?_)
      · rw [Bool.eq_false_iff]; intro z; rw [hq_cd_iff] at z; exact z.2.2 hl0
      · rw [hq_cd_iff, h0, f3, f4]; exact ⟨hk2, hw1, htm0⟩
      · unfold hq_cd; rw [h0, f2 i 2 (by omega) hne, f2 i 5 (by omega) hne]
  · intro s hs
    by_cases e : s = t
    · subst e
      intro _ n hn en
      rw [ha, nI_eq (by omega) (by omega)] at en
      subst en
      rw [pk_us, pk_us]
      exact ⟨by omega, rfl, rfl⟩
    · rw [pk_un e]
      intro hps n hn en
      obtain ⟨y1, y2, y3⟩ := gRm s hs hps n hn en
      rw [pk_un (by omega), pk_un (by omega)]
      exact ⟨by omega, y2, y3⟩
  · intro s hs
    by_cases e : s = t
    · subst e; rw [pk_us, hq_i21]; exact fun z => by omega
    · rw [pk_un e]
      intro hps n hn en
      have hL := gLo s hs
      unfold hq_LO at hL
      have e' : (c s).toInt = n := by rw [en, nI_toInt (by omega)]
      rw [hv n (by omega) (by omega)]
      exact gVr s hs hps n hn en
theorem hm_retire {n : Nat} (R : hq_RR k ls ll H T L tm cnt fc lim thr cel cN cX cV cS cO fs hz ph oo rA rB rC m vr pc sR sC rt rn ops lo a b c s0 s1 sp lb fa ow) (ht : t < 4) (h21 : (ph t).toInt = 21) (hn : n ≤ 64) (ha : a t = nI n) :
    hq_RR k (hq_ul ls t (ls t ++ [n])) ll H T L tm cnt fc lim thr cel cN cX cV (upd cS (k n) 3) cO fs hz (upd ph t 24) oo rA rB rC m vr pc sR sC (upd rt (16 * t + (ls t).length) (nI (k n))) (upd rn t (nI ((ls t).length + 1))) ops lo a b c s0 s1 sp lb (upd fa n 3) (upd ow n (nI t)) := by
  have hlens : ∀ s, s < 4 → (ls s).length + 1 ≤ 16 := fun s hs => (hm_len R hs).1
  obtain ⟨gSc, gLo, gRe, gHp, gLb, gFr, gPr, gCt, gRt, gHz, gSn, gOp, gLn, gEc, gRm, gVr⟩ := R
  have gSc' := gSc
  unfold hq_sc at gSc'
  obtain ⟨r1, r2, r3⟩ := gRm t ht h21 n hn ha
  have hlo := gLo t ht
  have hsn := gSn t ht
  rw [h21] at hlo hsn
  have hown : upd ow n (nI t) = ow := hq_us' r3
  rw [hown]
  have hnl : hq_hl H L fa n = true := by rw [hq_hl_iff]; exact ⟨by omega, Or.inr (Or.inl r2)⟩
  have hl' : ∀ q, hq_hl H L (upd fa n 3) q = hq_hl H L fa q := by
    intro q
    by_cases e : q = n
    · subst e
      rw [Bool.eq_iff_iff, hq_hl_iff, hq_hl_iff, pk_us]
      constructor
      · exact fun z => ⟨z.1, Or.inr (Or.inl r2)⟩
      · exact fun z => ⟨z.1, Or.inr (Or.inr rfl)⟩
    · unfold hq_hl
      rw [pk_un e]
  have epv : ∀ s, hq_pv (upd ph t 24) s = hq_pv ph s := hq_pv_eq (by rw [h21, hq_i24]; omega)
  refine ⟨gSc, ?_, gRe, ?_, gLb, gFr, ?_, ?_, ?_, ?_, ?_, ?_, gLn, gEc, ?_, ?_⟩
  · intro s hs
    by_cases e : s = t
    · subst e; rw [pk_us, hq_i24]; exact hq_LO_0 (by omega) (hq_LO_rg hlo)
    · rw [pk_un e]; exact gLo s hs
  · obtain ⟨g1, g2, g3⟩ := gHp
    refine ⟨fun q hq => ?_, fun q hq => ?_, fun q hq => ?_⟩
    · rw [hl' q] at hq
      obtain ⟨y1, y2, y3, y4⟩ := g1 q hq
      refine ⟨y1, y2, fun z => ?_, y4⟩
      by_cases e : q = n
      · subst e; rw [pk_us, pk_us]; exact ⟨rfl, (y3 z).2⟩
      · rw [pk_un (hm_kinj gSc ⟨g1, g2, g3⟩ hq hnl e), pk_un e]; exact y3 z
    · rcases g2 q hq with z | ⟨n', z1, z2⟩
      · exact Or.inl z
      · exact Or.inr ⟨n', by rw [hl' n']; exact z1, z2⟩
    · by_cases e : q = n
      · subst e; rw [pk_us]; exact Or.inr (Or.inl rfl)
      · rw [pk_un e]; exact g3 q hq
  · exact ⟨fun s hs z => gPr.1 s hs (by rw [← epv]; exact z), fun s r hs hr z1 z2 => gPr.2 s r hs hr (by rw [← epv]; exact z1) (by rw [← epv]; exact z2)⟩
  · unfold hq_ct
    rw [hq_cn_congr (fun s _ => epv s), hq_cn_congr (fun q _ => hl' q)]
    exact gCt
  · intro s hs
    obtain ⟨y1, y2, y3, y4⟩ := gRt s hs
    have hlens' := hlens s hs
    have hlent := hlens t ht
    by_cases e : s = t
    · subst e
      rw [hq_ul_s]
      have hnot : n ∉ ls s := by
        intro z
        have := (y2 n).mp z
        rw [hq_rb_iff, r2] at this
        exact absurd this.2.1 (by decide)
      refine ⟨?_, fun q => ?_, ?_, fun i q z => ?_⟩
      · rw [List.nodup_append]
        exact ⟨y1, List.pairwise_singleton _ _, fun u hu w hw z => by rw [List.mem_singleton] at hw; rw [z, hw] at hu; exact hnot hu⟩
      · rw [List.mem_append, List.mem_singleton, y2 q, hq_rb_iff, hq_rb_iff]
        by_cases e2 : q = n
        · subst e2
          rw [pk_us]
          exact ⟨fun _ => ⟨r1, rfl, r3⟩, fun _ => Or.inr rfl⟩
        · rw [pk_un e2]
          exact ⟨fun z => z.elim id (fun w => absurd w e2), fun z => Or.inl z⟩
      · rw [pk_us, List.length_append, List.length_singleton]
      · by_cases e2 : i < (ls s).length
        · rw [List.getElem?_append_left e2] at z
          rw [pk_un (by omega)]
          exact y4 i q z
        · rw [List.getElem?_append_right (by omega)] at z
          have hi : i - (ls s).length = 0 := by
            by_cases w : i - (ls s).length = 0
            · exact w
            · rw [List.getElem?_eq_none (by rw [List.length_singleton]; omega)] at z
              exact absurd z (by simp)
          rw [hi] at z
          simp at z
          rw [show i = (ls s).length by omega, pk_us, z]
    · rw [hq_ul_n e]
      refine ⟨y1, fun q => ?_, by rw [pk_un e]; exact y3, fun i q z => ?_⟩
      · rw [y2 q, hq_rb_iff, hq_rb_iff]
        by_cases e2 : q = n
        · subst e2
          rw [pk_us, r2, r3]
          constructor
          · exact fun z => absurd z.2.1 (by decide)
          · intro z
            have := z.2.2
            rw [nI_eq (by omega) (by omega)] at this
            exact absurd this.symm e
        · rw [pk_un e2]
      · have hi : i < (ls s).length := (List.getElem?_eq_some_iff.mp z).1
        rw [pk_un (by omega)]
        exact y4 i q z
  · have key : ∀ q n', hq_PR H L sC sp fa ow q n' → hq_PR H L sC sp (upd fa n 3) ow q n' := by
      intro q n' hp
      refine ⟨by rw [hl' n']; exact hp.1, fun z1 z2 o ho z3 z4 => ?_⟩
      by_cases e : n' = n
      · subst e
        rw [r3, nI_eq (by omega) (by omega)] at z3
        subst z3
        have := hsn.1
        unfold hq_SN at this
        omega
      · rw [pk_un e] at z2
        exact hp.2 z1 z2 o ho z3 z4
    intro s hs
    by_cases e : s = t
    · subst e; rw [pk_us, hq_i24]; exact ⟨fun z => by omega, fun z => by omega⟩
    · rw [pk_un e]
      exact ⟨fun z n' hn' en => key _ _ ((gHz s hs).1 z n' hn' en), fun z n' hn' en => key _ _ ((gHz s hs).2 z n' hn' en)⟩
  · intro s hs
    by_cases e : s = t
    · subst e; rw [pk_us, hq_i24]; refine ⟨?_, hsn.2⟩; have := hsn.1; unfold hq_SN at this ⊢; omega
    · rw [pk_un e]; exact gSn s hs
  · obtain ⟨e1, e2, e3, e4⟩ := gOp
    refine ⟨fun s hs => ?_, fun i hi z => ?_, e3, e4⟩
    · by_cases e : s = t
      · subst e
        rw [pk_us, hq_i24]
        intro _
        obtain ⟨o, ho, hoo, hob⟩ := e1 s hs (by omega)
        obtain ⟨q1, q2, q3, q4, q5, q6, q7, q8⟩ := hob
        exact ⟨o, ho, hoo, q1, q2, q3, fun z => by omega, fun _ z => by omega, fun z => by omega, fun _ z => by omega, fun _ z => by omega⟩
      · rw [pk_un e]; exact e1 s hs
    · obtain ⟨s, hs, y1, y2, y3⟩ := e2 i hi z
      refine ⟨s, hs, y1, ?_, y3⟩
      by_cases e : s = t
      · rw [e, pk_us, hq_i24]; omega
      · rw [pk_un e]; exact y2
  · intro s hs
    by_cases e : s = t
    · subst e; rw [pk_us, hq_i24]; exact fun z => by omega
    · rw [pk_un e]
      intro hps n' hn' en
      obtain ⟨y1, y2, y3⟩ := gRm s hs hps n' hn' en
      have hne : n' ≠ n := by
        intro q
        rw [q, r3, nI_eq (by omega) (by omega)] at y3
        exact e y3.symm
      rw [pk_un hne]
      exact ⟨y1, y2, y3⟩
  · intro s hs
    by_cases e : s = t
    · subst e; rw [pk_us, hq_i24]; exact fun z => by omega
    · rw [pk_un e]; exact gVr s hs
end
end
section
/-! moves of the relation: a retired node is recycled; the snapshot is cleared -/
def hq_RQ (k : Nat → Nat) (ll : List Nat) (H T L tm cnt fc lim thr cel : Nat) (cN cX cV cS cO fs hz ph oo rA rB rC m vr pc sR sC ops lo a b c s0 s1 sp lb fa ow : Nat → Int32) : Prop :=
  hq_sc H T L tm cnt lim thr cel ∧ hq_lo H T L ph a b c m s0 s1 ∧ hq_re k L hz rA rB rC sR a b c s0 s1 sp ∧ hq_hp k H L cN cX cV cS cO ops lb fa ow ∧
  hq_lb L cnt ops lb ∧ hq_fr fc cN fs ∧ hq_pr fc cN cX cV fs ph oo pc ops ∧ hq_ct H L fc cel ph fa ∧
  hq_hz H L ph sC a c sp fa ow ∧ hq_sn ph sC sp ∧ hq_op cnt ph oo ops ∧
  hq_ln ll tm cnt m ops lo ∧ hq_ec H L cnt ops ∧ hq_rm H ph a fa ow ∧ hq_vr ph c vr ops lb
section
variable {k : Nat → Nat} {ls : Nat → List Nat} {ll : List Nat} {H T L tm cnt fc lim thr cel : Nat} {cN cX cV cS cO fs hz ph oo rA rB rC m vr pc sR sC rt rn ops lo a b c s0 s1 sp lb fa ow : Nat → Int32} {t : Nat} {x : Int32}
theorem hm_RQ (R : hq_RR k ls ll H T L tm cnt fc lim thr cel cN cX cV cS cO fs hz ph oo rA rB rC m vr pc sR sC rt rn ops lo a b c s0 s1 sp lb fa ow) : hq_RQ k ll H T L tm cnt fc lim thr cel cN cX cV cS cO fs hz ph oo rA rB rC m vr pc sR sC ops lo a b c s0 s1 sp lb fa ow ∧ hq_rt k ls H rt rn fa ow := by
  obtain ⟨gSc, gLo, gRe, gHp, gLb, gFr, gPr, gCt, gRt, gHz, gSn, gOp, gLn, gEc, gRm, gVr⟩ := R
  exact ⟨⟨gSc, gLo, gRe, gHp, gLb, gFr, gPr, gCt, gHz, gSn, gOp, gLn, gEc, gRm, gVr⟩, gRt⟩
theorem hm_QR (Q : hq_RQ k ll H T L tm cnt fc lim thr cel cN cX cV cS cO fs hz ph oo rA rB rC m vr pc sR sC ops lo a b c s0 s1 sp lb fa ow) (gRt : hq_rt k ls H rt rn fa ow) : hq_RR k ls ll H T L tm cnt fc lim thr cel cN cX cV cS cO fs hz ph oo rA rB rC m vr pc sR sC rt rn ops lo a b c s0 s1 sp lb fa ow := by
  obtain ⟨gSc, gLo, gRe, gHp, gLb, gFr, gPr, gCt, gHz, gSn, gOp, gLn, gEc, gRm, gVr⟩ := Q
  exact ⟨gSc, gLo, gRe, gHp, gLb, gFr, gPr, gCt, gRt, gHz, gSn, gOp, gLn, gEc, gRm, gVr⟩
theorem hm_recyc {n : Nat} (Q : hq_RQ k ll H T L tm cnt fc lim thr cel cN cX cV cS cO fs hz ph oo rA rB rC m vr pc sR sC ops lo a b c s0 s1 sp lb fa ow) (ht : t < 4) (h23 : (ph t).toInt = 23) (hn : n < H) (hf : fa n = 3) (ho : ow n = nI t) (hun : ∀ j, j < 8 → sp (8 * t + j) ≠ nI n) :
    fc < 16 ∧ hq_RQ k ll H T L tm cnt (fc + 1) lim thr cel (upd cN (k n) (-1)) (upd cX (k n) (-1)) cV (upd cS (k n) 4) (upd cO (k n) (-1)) (upd fs fc (nI (k n))) hz ph oo rA rB rC m vr pc sR sC ops lo a b c s0 s1 sp lb (upd fa n 4) (upd ow n (-1)) := by
  obtain ⟨gSc, gLo, gRe, gHp, gLb, gFr, gPr, gCt, gHz, gSn, gOp, gLn, gEc, gRm, gVr⟩ := Q
  have gSc' := gSc
  unfold hq_sc at gSc'
  have hnl : hq_hl H L fa n = true := by rw [hq_hl_iff]; exact ⟨by omega, Or.inr (Or.inr hf)⟩
  have hl' : ∀ q, q ≠ n → hq_hl H L (upd fa n 4) q = hq_hl H L fa q := by
    intro q e
    unfold hq_hl
    rw [pk_un e]
  have hln : hq_hl H L (upd fa n 4) n = false := by
    rw [Bool.eq_false_iff]
    intro z
    rw [hq_hl_iff, pk_us] at z
    rcases z.2 with w | w | w
    · omega
    · exact absurd w (by decide)
    · exact absurd w (by decide)
  have hnn : ∀ q, hq_hl H L (upd fa n 4) q = true → q ≠ n ∧ hq_hl H L fa q = true := by
    intro q z
    have e : q ≠ n := fun w => by rw [w, hln] at z; exact absurd z (by decide)
    exact ⟨e, by rw [← hl' q e]; exact z⟩
  have hd : k n < 16 := gRe.1 n (by omega)
  have hcn : cN (k n) = nI n := (gHp.1 n hnl).1
  have hct : hq_cn (hq_hl H L fa) 65 = hq_cn (hq_hl H L (upd fa n 4)) 65 + 1 := hq_cn_flip (k := n) (by omega) hln hnl (fun i _ hi => (hl' i hi).symm)
  have hsn := (gSn t ht).1
  rw [h23] at hsn
  unfold hq_SN at hsn
  unfold hq_ct at gCt
  refine ⟨by omega, gSc, gLo, gRe, ?_, gLb, ?_, ?_, ?_, ?_, gSn, gOp, gLn, gEc, ?_, gVr⟩
  · obtain ⟨g1, g2, g3⟩ := gHp
    refine ⟨fun q hq => ?_, fun q hq => ?_, fun q hq => ?_⟩
    · obtain ⟨e, hq'⟩ := hnn q hq
      have hne := hm_kinj gSc ⟨g1, g2, g3⟩ hq' hnl e
      rw [pk_un hne, pk_un hne, pk_un hne, pk_un hne, pk_un e, pk_un e]
      exact g1 q hq'
    · by_cases e : q = k n
      · rw [e, pk_us]; exact Or.inl rfl
      · rw [pk_un e]
        rcases g2 q hq with z | ⟨n', z1, z2⟩
        · exact Or.inl z
        · have hne : n' ≠ n := fun w => e (by rw [← z2, w])
          exact Or.inr ⟨n', by rw [hl' n' hne]; exact z1, z2⟩
    · by_cases e : q = n
      · subst e; rw [pk_us]; exact Or.inr (Or.inr rfl)
      · rw [pk_un e]; exact g3 q hq
  · obtain ⟨g1, g2⟩ := gFr
    have nf : ∀ i, i < fc → fs i ≠ nI (k n) := by
      intro i hi z
      obtain ⟨d, y1, y2, y3⟩ := g1 i hi
      rw [y2, nI_eq (by omega) (by omega)] at z
      rw [z, hcn] at y3
      exact hq_m1n (by omega) y3.symm
    refine ⟨fun i hi => ?_, fun i j hi hj e => ?_⟩
    · by_cases q : i = fc
      · subst q; exact ⟨k n, hd, pk_us, pk_us⟩
      · obtain ⟨d, y1, y2, y3⟩ := g1 i (by omega)
        refine ⟨d, y1, by rw [pk_un q]; exact y2, ?_⟩
        by_cases w : d = k n
        · rw [w, pk_us]
        · rw [pk_un w]; exact y3
    · by_cases q1 : i = fc
      · by_cases q2 : j = fc
        · rw [q1, q2]
        · subst q1
          rw [pk_us, pk_un q2] at e
          exact absurd e.symm (nf j (by omega))
      · by_cases q2 : j = fc
        · subst q2
          rw [pk_us, pk_un q1] at e
          exact absurd e (nf i (by omega))
        · rw [pk_un q1, pk_un q2] at e
          exact g2 i j (by omega) (by omega) e
  · refine ⟨fun s hs z => ?_, gPr.2⟩
    obtain ⟨d, y1, y2, y3, y4, y5, y6⟩ := gPr.1 s hs z
    have hne : d ≠ k n := fun w => by rw [w, hcn] at y3; exact hq_m1n (by omega) y3.symm
    refine ⟨d, y1, y2, by rw [pk_un hne]; exact y3, by rw [pk_un hne]; exact y4, y5, fun i hi => ?_⟩
    by_cases q : i = fc
    · rw [q, pk_us]
      intro w
      rw [nI_eq (by omega) (by omega)] at w
      exact hne w.symm
    · rw [pk_un q]; exact y6 i (by omega)
  · unfold hq_ct; omega
  · have key : ∀ q n', q < 8 → hq_PR H L sC sp fa ow q n' → hq_PR H L sC sp (upd fa n 4) (upd ow n (-1)) q n' := by
      intro q n' hq hp
      have hne : n' ≠ n := by
        intro w
        subst w
        exact hun q hq (hp.2 hn hf t ht ho (by omega))
      refine ⟨by rw [hl' n' hne]; exact hp.1, ?_⟩
      rw [pk_un hne, pk_un hne]
      exact hp.2
    intro s hs
    exact ⟨fun z n' hn' en => key _ _ (by omega) ((gHz s hs).1 z n' hn' en), fun z n' hn' en => key _ _ (by omega) ((gHz s hs).2 z n' hn' en)⟩
  · intro s hs hps n' hn' en
    obtain ⟨y1, y2, y3⟩ := gRm s hs hps n' hn' en
    have hne : n' ≠ n := fun w => by rw [w, hf] at y2; exact absurd y2 (by decide)
    rw [pk_un hne, pk_un hne]
    exact ⟨y1, y2, y3⟩
theorem hm_clr (R : hq_RR k ls ll H T L tm cnt fc lim thr cel cN cX cV cS cO fs hz ph oo rA rB rC m vr pc sR sC rt rn ops lo a b c s0 s1 sp lb fa ow) (ht : t < 4) (h23 : (ph t).toInt = 23) : hq_RR k ls ll H T L tm cnt fc lim thr cel cN cX cV cS cO fs hz (upd ph t 24) oo rA rB rC m vr pc (hq_clr sR t) (upd sC t 0) rt rn ops lo a b c s0 s1 (hq_clr sp t) lb fa ow := by
  obtain ⟨gSc, gLo, gRe, gHp, gLb, gFr, gPr, gCt, gRt, gHz, gSn, gOp, gLn, gEc, gRm, gVr⟩ := R
  have hlo := gLo t ht
  rw [h23] at hlo
  have epv : ∀ s, hq_pv (upd ph t 24) s = hq_pv ph s := hq_pv_eq (by rw [h23, hq_i24]; omega)
  refine ⟨gSc, ?_, ?_, gHp, gLb, gFr, ?_, ?_, gRt, ?_, ?_, ?_, gLn, gEc, ?_, ?_⟩
  · intro s hs
    by_cases e : s = t
    · subst e; rw [pk_us, hq_i24]; exact hq_LO_0 (by omega) (hq_LO_rg hlo)
    · rw [pk_un e]; exact gLo s hs
  · obtain ⟨e1, e2, e3, e4, e5, e6, e7, e8⟩ := gRe
    refine ⟨e1, e2, e3, e4, e5, e6, fun i hi => ?_, fun i hi => ?_⟩
    · by_cases q : 8 * t ≤ i ∧ i < 8 * t + 8
      · rw [hq_clr_in q.1 q.2, hq_clr_in q.1 q.2, hq_rf_m2]
      · rw [hq_clr_out q, hq_clr_out q]; exact e7 i hi
    · by_cases q : 8 * t ≤ i ∧ i < 8 * t + 8
      · rw [hq_clr_in q.1 q.2, hq_im2]; omega
      · rw [hq_clr_out q]; exact e8 i hi
  · exact ⟨fun s hs z => gPr.1 s hs (by rw [← epv]; exact z), fun s r hs hr z1 z2 => gPr.2 s r hs hr (by rw [← epv]; exact z1) (by rw [← epv]; exact z2)⟩
  · unfold hq_ct
    rw [hq_cn_congr (fun s _ => epv s)]
    exact gCt
  · have key : ∀ q n', q < 8 → hq_PR H L sC sp fa ow q n' → hq_PR H L (upd sC t 0) (hq_clr sp t) fa ow q n' := by
      intro q n' hq hp
      refine ⟨hp.1, fun z1 z2 o ho z3 z4 => ?_⟩
      by_cases e : o = t
      · subst e; rw [pk_us, hq_i0] at z4; omega
      · rw [pk_un e] at z4
        rw [hq_clr_out (by omega)]
        exact hp.2 z1 z2 o ho z3 z4
    intro s hs
    by_cases e : s = t
    · subst e; rw [pk_us, hq_i24]; exact ⟨fun z => by omega, fun z => by omega⟩
    · rw [pk_un e]
      exact ⟨fun z n' hn' en => key _ _ (by omega) ((gHz s hs).1 z n' hn' en), fun z n' hn' en => key _ _ (by omega) ((gHz s hs).2 z n' hn' en)⟩
  · intro s hs
    by_cases e : s = t
    · subst e
      rw [pk_us, pk_us, hq_i24, hq_i0]
      refine ⟨by unfold hq_SN; omega, fun j hj => ?_⟩
      rw [hq_clr_in (by omega) (by omega)]
      exact ⟨fun _ => by omega, fun _ => rfl⟩
    · rw [pk_un e, pk_un e]
      refine ⟨(gSn s hs).1, fun j hj => ?_⟩
      rw [hq_clr_out (by omega)]
      exact (gSn s hs).2 j hj
  · obtain ⟨e1, e2, e3, e4⟩ := gOp
    refine ⟨fun s hs => ?_, fun i hi z => ?_, e3, e4⟩
    · by_cases e : s = t
      · subst e
        rw [pk_us, hq_i24]
        intro _
        obtain ⟨o, ho, hoo, hob⟩ := e1 s hs (by omega)
        obtain ⟨q1, q2, q3, q4, q5, q6, q7, q8⟩ := hob
        exact ⟨o, ho, hoo, q1, q2, q3, fun z => by omega, fun _ z => by omega, fun z => by omega, fun _ z => by omega, fun _ z => by omega⟩
      · rw [pk_un e]; exact e1 s hs
    · obtain ⟨s, hs, y1, y2, y3⟩ := e2 i hi z
      refine ⟨s, hs, y1, ?_, y3⟩
      by_cases e : s = t
      · rw [e, pk_us, hq_i24]; omega
      · rw [pk_un e]; exact y2
  · intro s hs
    by_cases e : s = t
    · subst e; rw [pk_us, hq_i24]; exact fun z => by omega
    · rw [pk_un e]; exact gRm s hs
  · intro s hs
    by_cases e : s = t
    · subst e; rw [pk_us, hq_i24]; exact fun z => by omega
    · rw [pk_un e]; exact gVr s hs
/-- a cleared snapshot cleared again -/
theorem hm_clr_id (R : hq_RR k ls ll H T L tm cnt fc lim thr cel cN cX cV cS cO fs hz ph oo rA rB rC m vr pc sR sC rt rn ops lo a b c s0 s1 sp lb fa ow) (ht : t < 4) (h0 : (sC t).toInt = 0) : hq_clr sp t = sp ∧ hq_clr sR t = sR ∧ upd sC t 0 = sC := by
  obtain ⟨gSc, gLo, gRe, gHp, gLb, gFr, gPr, gCt, gRt, gHz, gSn, gOp, gLn, gEc, gRm, gVr⟩ := R
  have h1 : ∀ i, 8 * t ≤ i → i < 8 * t + 8 → sp i = -2 := by
    intro i z1 z2
    have := ((gSn t ht).2 (i - 8 * t) (by omega)).mpr (by rw [h0]; omega)
    rw [show 8 * t + (i - 8 * t) = i by omega] at this
    exact this
  refine ⟨funext fun i => ?_, funext fun i => ?_, hq_us' (hq_inj (by rw [h0, hq_i0]))⟩
  · by_cases q : 8 * t ≤ i ∧ i < 8 * t + 8
    · rw [hq_clr_in q.1 q.2, h1 i q.1 q.2]
    · rw [hq_clr_out q]
  · by_cases q : 8 * t ≤ i ∧ i < 8 * t + 8
    · rw [hq_clr_in q.1 q.2, gRe.2.2.2.2.2.2.1 i (by omega), h1 i q.1 q.2, hq_rf_m2]
    · rw [hq_clr_out q]
end
end
section
/-! walks of the component: the small methods -/
/-- places j .. 7 of t's snapshot cleared -/
def hq_cl (f : Nat → Int32) (t j : Nat) : Nat → Int32 := fun i => if 8 * t + j ≤ i ∧ i < 8 * t + 8 then -2 else f i
theorem hq_cl_0 (f : Nat → Int32) (t : Nat) : hq_cl f t 0 = hq_clr f t := rfl
theorem hq_cl_8 (f : Nat → Int32) (t : Nat) : hq_cl f t 8 = f := funext fun i => if_neg (by omega)
theorem hq_cl_s (f : Nat → Int32) (t j : Nat) (hj : j < 8) : hq_cl (upd f (8 * t + j) (-2)) t (j + 1) = hq_cl f t j := funext fun i => by
  unfold hq_cl
  by_cases e : i = 8 * t + j
  · rw [if_neg (by omega), if_pos (by omega), e, pk_us]
  · rw [pk_un e]
    by_cases h : 8 * t + j ≤ i ∧ i < 8 * t + 8
    · rw [if_pos (by omega), if_pos h]
    · rw [if_neg (by omega), if_neg h]
section
variable {fc hr tr ln tm cnt lc lim thr : Int32} {cN cX cV cS cO fs hz ph oo rA rB rC m vr pc sR sC rt rn ops lo sz : Nat → Int32} {t o : Nat} {x y : Int32}
theorem hx_setField {post : SX → Prop} (f : Nat) (ho : o < 64) (hf : f < 7) (h : post (fc, hr, tr, ln, tm, cnt, lc, lim, thr, cN, cX, cV, cS, cO, fs, hz, ph, oo, rA, rB, rC, m, vr, pc, sR, sC, rt, rn, upd ops (7 * o + f) x, lo, sz)) : wpX_setField post (fc, hr, tr, ln, tm, cnt, lc, lim, thr, cN, cX, cV, cS, cO, fs, hz, ph, oo, rA, rB, rC, m, vr, pc, sR, sC, rt, rn, ops, lo, sz) (nI o) (nI f) x := by
  unfold wpX_setField
  rw [hq_m7, nI_add, nI_clamp (by omega)]
  exact ⟨vp_in_nI (by omega) (by decide), nm_e h⟩
theorem hx_getField {post : Int32 → Prop} (f : Nat) (ho : o < 64) (hf : f < 7) (h : post (hq_f ops o f)) : wpX_getField post (fc, hr, tr, ln, tm, cnt, lc, lim, thr, cN, cX, cV, cS, cO, fs, hz, ph, oo, rA, rB, rC, m, vr, pc, sR, sC, rt, rn, ops, lo, sz) (nI o) (nI f) := by
  unfold wpX_getField
  rw [hq_m7, nI_add, nI_clamp (by omega)]
  exact ⟨vp_in_nI (by omega) (by decide), h⟩
theorem hx_enter {post : Int32 → SX → Prop} (ht : t < 4) (h : post 0 (fc, hr, tr, ln, tm, cnt, lc, lim, thr, cN, cX, cV, cS, cO, fs, hz, upd ph t x, oo, rA, rB, rC, m, vr, pc, sR, sC, rt, rn, ops, lo, sz)) : wpX_enter post (fc, hr, tr, ln, tm, cnt, lc, lim, thr, cN, cX, cV, cS, cO, fs, hz, ph, oo, rA, rB, rC, m, vr, pc, sR, sC, rt, rn, ops, lo, sz) (nI t) x := by
  unfold wpX_enter
  rw [nI_clamp (by omega)]
  exact ⟨vp_in_nI (by omega) (by decide), nm_e h⟩
theorem hx_clearLocals {post : SX → Prop} (ht : t < 4) (h : post (fc, hr, tr, ln, tm, cnt, lc, lim, thr, cN, cX, cV, cS, cO, fs, upd (upd hz (2 * t) (-1)) (2 * t + 1) (-1), ph, oo, upd rA t (-1), upd rB t (-1), upd rC t (-1), upd m t 0, vr, pc, sR, sC, rt, rn, ops, lo, sz)) : wpX_clearLocals post (fc, hr, tr, ln, tm, cnt, lc, lim, thr, cN, cX, cV, cS, cO, fs, hz, ph, oo, rA, rB, rC, m, vr, pc, sR, sC, rt, rn, ops, lo, sz) (nI t) := by
  unfold wpX_clearLocals
  rw [hq_m2, hq_a1, nI_clamp (show 2 * t < 2 ^ 31 by omega), nI_clamp (show 2 * t + 1 < 2 ^ 31 by omega), nI_clamp (show t < 2 ^ 31 by omega)]
  have h4 : vp_in (nI t) 4 := vp_in_nI ht (by decide)
  exact ⟨vp_in_nI (by omega) (by decide), nm_e ⟨vp_in_nI (by omega) (by decide), nm_e ⟨h4, nm_e ⟨h4, nm_e ⟨h4, nm_e ⟨h4, nm_e h⟩⟩⟩⟩⟩⟩
theorem hx_clearSnapshot_2 {post : SX → Prop} (ht : t < 4) : ∀ (d j : Nat) (f : Nat → Int32), j + d = 8 → post (fc, hr, tr, ln, tm, cnt, lc, lim, thr, cN, cX, cV, cS, cO, fs, hz, ph, oo, rA, rB, rC, m, vr, pc, hq_cl f t j, upd sC t 0, rt, rn, ops, lo, sz) → wX_clearSnapshot_2 post (nI t) fc hr tr ln tm cnt lc lim thr (d + 1) (nI j) cN cX cV cS cO fs hz ph oo rA rB rC m vr pc f sC rt rn ops lo sz := by
  intro d
  induction d with
  | zero =>
    intro j f hj h
    rw [show j = 8 by omega] at h ⊢
    rw [hq_cl_8] at h
    unfold wX_clearSnapshot_2
    refine br_t (show (8 : Int32) ≤ nI 8 from by decide) ⟨vp_in_nI ht (by decide), ?_⟩
    rw [nI_clamp (by omega)]
    exact nm_e h
  | succ d ih =>
    intro j f hj h
    unfold wX_clearSnapshot_2
    refine br_f (nI_ge (b := 8) (by omega) (by decide)) ?_
    rw [hq_m8, nI_add, nI_clamp (by omega)]
    refine ⟨vp_in_nI (by omega) (by decide), nm_e (nm_r (nI_1 j) ?_)⟩
    exact ih (j + 1) _ (by omega) (by rw [hq_cl_s _ _ _ (by omega)]; exact h)
theorem hx_clearSnapshot {post : SX → Prop} (ht : t < 4) (h : post (fc, hr, tr, ln, tm, cnt, lc, lim, thr, cN, cX, cV, cS, cO, fs, hz, ph, oo, rA, rB, rC, m, vr, pc, hq_clr sR t, upd sC t 0, rt, rn, ops, lo, sz)) : wpX_clearSnapshot post (fc, hr, tr, ln, tm, cnt, lc, lim, thr, cN, cX, cV, cS, cO, fs, hz, ph, oo, rA, rB, rC, m, vr, pc, sR, sC, rt, rn, ops, lo, sz) (nI t) := by
  unfold wpX_clearSnapshot
  exact ⟨9, hx_clearSnapshot_2 ht 8 0 sR rfl (by rw [hq_cl_0]; exact h)⟩
theorem hx_finish {post : Int32 → SX → Prop} (ht : t < 4) (ho : o < 64) (hoo : oo t = nI o) (h : post x (fc, hr, tr, ln, tm, cnt, lc, lim, thr, cN, cX, cV, cS, cO, fs, upd (upd hz (2 * t) (-1)) (2 * t + 1) (-1), upd ph t 0, upd oo t (-1), upd rA t (-1), upd rB t (-1), upd rC t (-1), upd m t 0, vr, pc, hq_clr sR t, upd sC t 0, rt, rn, upd (upd ops (7 * o + 3) x) (7 * o + 6) tm, lo, sz)) : wpX_finish post (fc, hr, tr, ln, tm, cnt, lc, lim, thr, cN, cX, cV, cS, cO, fs, hz, ph, oo, rA, rB, rC, m, vr, pc, sR, sC, rt, rn, ops, lo, sz) (nI t) x := by
  unfold wpX_finish
  have h4 : vp_in (nI t) 4 := vp_in_nI ht (by decide)
  rw [nI_clamp (show t < 2 ^ 31 by omega)]
  refine ⟨h4, nm_r hoo ?_⟩
  refine hx_setField 3 ho (by omega) ?_
  refine hx_setField 6 ho (by omega) ?_
  refine hx_clearLocals ht ?_
  refine hx_clearSnapshot ht ?_
  exact ⟨h4, nm_e ⟨h4, nm_e h⟩⟩
theorem hx_swapTail {post : SX → Prop} (h : post (fc, hr, if tr = x then y else tr, ln, tm, cnt, lc, lim, thr, cN, cX, cV, cS, cO, fs, hz, ph, oo, rA, rB, rC, m, vr, pc, sR, sC, rt, rn, ops, lo, sz)) : wpX_swapTail post (fc, hr, tr, ln, tm, cnt, lc, lim, thr, cN, cX, cV, cS, cO, fs, hz, ph, oo, rA, rB, rC, m, vr, pc, sR, sC, rt, rn, ops, lo, sz) x y := by
  unfold wpX_swapTail
  by_cases e : tr = x
  · rw [if_pos e] at h; exact br_t e h
  · rw [if_neg e] at h; exact br_f e h
theorem hx_numberOf {post : Int32 → Prop} (h0 : x.toInt < 0) (h : post x) : wpX_numberOf post (fc, hr, tr, ln, tm, cnt, lc, lim, thr, cN, cX, cV, cS, cO, fs, hz, ph, oo, rA, rB, rC, m, vr, pc, sR, sC, rt, rn, ops, lo, sz) x := by
  unfold wpX_numberOf
  exact br_f (by rw [Int32.le_iff_toInt_le, hq_i0]; omega) h
theorem hx_numberOf_n {post : Int32 → Prop} {n d : Nat} (hn : n ≤ 64) (hd : d < 16) (h : post (nI n)) : wpX_numberOf post (fc, hr, tr, ln, tm, cnt, lc, lim, thr, cN, cX, cV, cS, cO, fs, hz, ph, oo, rA, rB, rC, m, vr, pc, sR, sC, rt, rn, ops, lo, sz) (nI (16 * n + d)) := by
  unfold wpX_numberOf
  rw [hq_shr4 hn hd]
  exact br_t (nI_pos' (by omega)) h
theorem hx_numberOf_rf {post : Int32 → Prop} {k : Nat → Nat} {L : Nat} (hL : L ≤ 64) (hk : ∀ n, n ≤ L → k n < 16) (hx : x.toInt ≤ L) (h : post x) : wpX_numberOf post (fc, hr, tr, ln, tm, cnt, lc, lim, thr, cN, cX, cV, cS, cO, fs, hz, ph, oo, rA, rB, rC, m, vr, pc, sR, sC, rt, rn, ops, lo, sz) (hq_rf k x) := by
  by_cases h0 : 0 ≤ x.toInt
  · obtain ⟨n, hn, rfl⟩ := hq_nle h0 hx
    rw [hq_rf_n (by omega)]
    exact hx_numberOf_n (by omega) (hk n hn) h
  · rw [hq_rf_neg (by omega)]
    exact hx_numberOf (by omega) h
/-- the link of a node that is in its cell -/
theorem hx_nextOf {post : Int32 → Prop} {k : Nat → Nat} {n : Nat} (hn : n ≤ 64) (hk : k n < 16) (hc : cN (k n) = nI n) (h : post (cX (k n))) : wpX_nextOf post (fc, hr, tr, ln, tm, cnt, lc, lim, thr, cN, cX, cV, cS, cO, fs, hz, ph, oo, rA, rB, rC, m, vr, pc, sR, sC, rt, rn, ops, lo, sz) (hq_rf k (nI n)) := by
  rw [hq_rf_n (by omega)]
  unfold wpX_nextOf
  refine br_t (nI_pos' (by omega)) (nm_r (hq_and15 hn hk) ?_)
  rw [nI_clamp (by omega), hq_shr4 hn hk]
  exact ⟨vp_in_nI hk (by decide), br_t hc ⟨vp_in_nI hk (by decide), h⟩⟩
/-- the link of anything -/
theorem hx_nextOf_any : ∃ r : Int32, ∀ post : Int32 → Prop, post r → wpX_nextOf post (fc, hr, tr, ln, tm, cnt, lc, lim, thr, cN, cX, cV, cS, cO, fs, hz, ph, oo, rA, rB, rC, m, vr, pc, sR, sC, rt, rn, ops, lo, sz) x := by
  by_cases h0 : 0 ≤ x
  · by_cases e : cN (x &&& 15).toNatClampNeg = x >>> ((4 : Int32) &&& 31)
    · refine ⟨cX (x &&& 15).toNatClampNeg, fun post h => ?_⟩
      unfold wpX_nextOf
      have hi : vp_in (x &&& 15) 16 := pk_andIn x 4 (by decide) (by decide)
      exact br_t h0 (nm_e ⟨hi, br_t e ⟨hi, h⟩⟩)
    · refine ⟨-1, fun post h => ?_⟩
      unfold wpX_nextOf
      have hi : vp_in (x &&& 15) 16 := pk_andIn x 4 (by decide) (by decide)
      exact br_t h0 (nm_e ⟨hi, br_f e h⟩)
  · refine ⟨-1, fun post h => ?_⟩
    unfold wpX_nextOf
    exact br_f h0 h
theorem hx_findCell_2 : ∀ (d j : Nat), j + d = 16 → (∀ i, i < j → cN i ≠ x) →
    ∃ r : Int32, ((r = -1 ∧ ∀ i, i < 16 → cN i ≠ x) ∨ ∃ i, i < 16 ∧ r = nI i ∧ cN i = x) ∧ ∀ post : Int32 → Prop, post r → wX_findCell_2 post x fc hr tr ln tm cnt lc lim thr cN cX cV cS cO fs hz ph oo rA rB rC m vr pc sR sC rt rn ops lo sz (d + 1) (nI j) := by
  intro d
  induction d with
  | zero =>
    intro j hj hi
    rw [show j = 16 by omega] at hi ⊢
    refine ⟨-1, Or.inl ⟨rfl, hi⟩, fun post h => ?_⟩
    unfold wX_findCell_2
    exact br_t (show (16 : Int32) ≤ nI 16 from by decide) h
  | succ d ih =>
    intro j hj hi
    by_cases e : cN j = x
    · refine ⟨nI j, Or.inr ⟨j, by omega, rfl, e⟩, fun post h => ?_⟩
      unfold wX_findCell_2
      refine br_f (nI_ge (b := 16) (by omega) (by decide)) ⟨vp_in_nI (by omega) (by decide), ?_⟩
      rw [nI_clamp (by omega)]
      exact br_t e h
    · obtain ⟨r, hr, hw⟩ := ih (j + 1) (by omega) (fun i h => by
        by_cases q : i = j
        · rw [q]; exact e
        · exact hi i (by omega))
      refine ⟨r, hr, fun post h => ?_⟩
      unfold wX_findCell_2
      refine br_f (nI_ge (b := 16) (by omega) (by decide)) ⟨vp_in_nI (by omega) (by decide), ?_⟩
      rw [nI_clamp (by omega)]
      exact br_f e (nm_r (nI_1 j) (hw post h))
theorem hx_findCell : ∃ r : Int32, ((r = -1 ∧ ∀ i, i < 16 → cN i ≠ x) ∨ ∃ i, i < 16 ∧ r = nI i ∧ cN i = x) ∧ ∀ post : Int32 → Prop, post r → wpX_findCell post (fc, hr, tr, ln, tm, cnt, lc, lim, thr, cN, cX, cV, cS, cO, fs, hz, ph, oo, rA, rB, rC, m, vr, pc, sR, sC, rt, rn, ops, lo, sz) x := by
  obtain ⟨r, hr, hw⟩ := @hx_findCell_2 fc hr tr ln tm cnt lc lim thr cN cX cV cS cO fs hz ph oo rA rB rC m vr pc sR sC rt rn ops lo sz x 16 0 rfl (fun i h => by omega)
  refine ⟨r, hr, fun post h => ?_⟩
  unfold wpX_findCell
  exact ⟨17, hw post h⟩
end
/-- whether t's snapshot holds x -/
def hq_se (f : Nat → Int32) (t : Nat) (x : Int32) : Bool := (List.range 8).any fun j => decide (f (8 * t + j) = x)
theorem hq_se_iff {f : Nat → Int32} {t : Nat} {x : Int32} : hq_se f t x = true ↔ ∃ j, j < 8 ∧ f (8 * t + j) = x := by
  unfold hq_se
  rw [List.any_eq_true]
  constructor
  · intro ⟨j, h1, h2⟩
    exact ⟨j, List.mem_range.mp h1, of_decide_eq_true h2⟩
  · intro ⟨j, h1, h2⟩
    exact ⟨j, List.mem_range.mpr h1, decide_eq_true h2⟩
section
variable {fc hr tr ln tm cnt lc lim thr : Int32} {cN cX cV cS cO fs hz ph oo rA rB rC m vr pc sR sC rt rn ops lo sz : Nat → Int32} {t o : Nat} {x y : Int32}
theorem hx_seen_2 (ht : t < 4) : ∀ (d j : Nat), j + d = 8 → (∀ i, i < j → sR (8 * t + i) ≠ x) → ∀ post : Int32 → Prop, post (if hq_se sR t x = true then 1 else 0) → wX_seen_2 post (nI t) x fc hr tr ln tm cnt lc lim thr cN cX cV cS cO fs hz ph oo rA rB rC m vr pc sR sC rt rn ops lo sz (d + 1) (nI j) := by
  intro d
  induction d with
  | zero =>
    intro j hj hi post h
    rw [show j = 8 by omega] at hi ⊢
    unfold wX_seen_2
    rw [if_neg (by rw [hq_se_iff]; exact fun ⟨i, h1, h2⟩ => hi i h1 h2)] at h
    exact br_t (show (8 : Int32) ≤ nI 8 from by decide) h
  | succ d ih =>
    intro j hj hi post h
    unfold wX_seen_2
    rw [hq_m8, nI_add, nI_clamp (by omega)]
    refine br_f (nI_ge (b := 8) (by omega) (by decide)) ⟨vp_in_nI (by omega) (by decide), ?_⟩
    by_cases e : sR (8 * t + j) = x
    · rw [if_pos (hq_se_iff.mpr ⟨j, by omega, e⟩)] at h
      exact br_t e h
    · exact br_f e (nm_r (nI_1 j) (ih (j + 1) (by omega) (fun i hh => by
        by_cases q : i = j
        · rw [q]; exact e
        · exact hi i (by omega)) post h))
theorem hx_seen (ht : t < 4) {post : Int32 → Prop} (h : post (if hq_se sR t x = true then 1 else 0)) : wpX_seen post (fc, hr, tr, ln, tm, cnt, lc, lim, thr, cN, cX, cV, cS, cO, fs, hz, ph, oo, rA, rB, rC, m, vr, pc, sR, sC, rt, rn, ops, lo, sz) (nI t) x := by
  unfold wpX_seen
  exact ⟨9, hx_seen_2 ht 8 0 rfl (fun i h => by omega) post h⟩
theorem hx_recycle {post : SX → Prop} {fc d : Nat} (hd : d < 16) (hf : fc < 16) (h : post (nI (fc + 1), hr, tr, ln, tm, cnt, lc, lim, thr, upd cN d (-1), upd cX d (-1), cV, upd cS d 4, upd cO d (-1), upd fs fc (nI d), hz, ph, oo, rA, rB, rC, m, vr, pc, sR, sC, rt, rn, ops, lo, sz)) : wpX_recycle post (nI fc, hr, tr, ln, tm, cnt, lc, lim, thr, cN, cX, cV, cS, cO, fs, hz, ph, oo, rA, rB, rC, m, vr, pc, sR, sC, rt, rn, ops, lo, sz) (nI d) := by
  unfold wpX_recycle
  dsimp only
  rw [nI_clamp (show d < 2 ^ 31 by omega), nI_clamp (show fc < 2 ^ 31 by omega)]
  have h4 : vp_in (nI d) 16 := vp_in_nI hd (by decide)
  exact ⟨h4, nm_e ⟨h4, nm_e ⟨h4, nm_e ⟨h4, nm_e (br_f (nI_ge (b := 16) hf (by decide)) ⟨vp_in_nI hf (by decide), nm_e (nm_r (nI_1 fc) h)⟩)⟩⟩⟩⟩
end
end
section
/-! walks of the component: the order of linearised operations -/
def hq_lh (lo : Nat → Int32) (l : List Nat) (b : Nat) : Prop := ∀ j i, l[j]? = some i → lo (b + j) = nI i
theorem hq_lh_nil (lo : Nat → Int32) (b : Nat) : hq_lh lo [] b := fun j i h => by simp at h
theorem hq_lh_cons {lo : Nat → Int32} {l : List Nat} {b i : Nat} (h0 : lo b = nI i) (h : hq_lh lo l (b + 1)) : hq_lh lo (i :: l) b := by
  intro j q hq
  cases j with
  | zero => simp at hq; rw [← hq]; exact h0
  | succ j =>
    simp at hq
    have := h j q hq
    rw [show b + (j + 1) = b + 1 + j by omega]
    exact this
theorem hq_lh_app {lo : Nat → Int32} {l1 l2 : List Nat} {b : Nat} (h1 : hq_lh lo l1 b) (h2 : hq_lh lo l2 (b + l1.length)) : hq_lh lo (l1 ++ l2) b := by
  intro j q hq
  by_cases e : j < l1.length
  · rw [List.getElem?_append_left e] at hq; exact h1 j q hq
  · rw [List.getElem?_append_right (by omega)] at hq
    have := h2 _ q hq
    rw [show b + j = b + l1.length + (j - l1.length) by omega]
    exact this
theorem hq_lh_upd {lo : Nat → Int32} {l : List Nat} {b p : Nat} {x : Int32} (h : hq_lh lo l b) (hp : p < b ∨ b + l.length ≤ p) : hq_lh (upd lo p x) l b := by
  intro j q hq
  have hj : j < l.length := (List.getElem?_eq_some_iff.mp hq).1
  rw [pk_un (by omega)]
  exact h j q hq
/-- p - 1 as the code keeps it -/
def hq_pm : Nat → Int32
  | 0 => -1
  | n + 1 => nI n
theorem hq_pm_m1 (q : Nat) : nI q + (-1) = hq_pm q := by
  cases q with
  | zero => decide
  | succ q => exact pk_m1 q
theorem hq_pm_s1 (q : Nat) : nI q - 1 = hq_pm q := by
  cases q with
  | zero => decide
  | succ q => exact nI_pred q
section
variable {fc hr tr ln tm cnt lc lim thr : Int32} {cN cX cV cS cO fs hz ph oo rA rB rC m vr pc sR sC rt rn ops lo sz : Nat → Int32} {t o : Nat} {x y : Int32}
theorem hx_lin_end {post : SX → Prop} {q : Nat} (hq : q < 64) (h : post (fc, hr, tr, ln, tm, cnt, lc + 1, lim, thr, cN, cX, cV, cS, cO, fs, hz, ph, oo, rA, rB, rC, m, vr, pc, sR, sC, rt, rn, ops, upd lo q (nI o), sz)) : wX_linearise_77 post (nI o) (nI q) fc hr tr ln tm cnt lc lim thr cN cX cV cS cO fs hz ph oo rA rB rC m vr pc sR sC rt rn ops lo sz := by
  unfold wX_linearise_77
  rw [nI_clamp (by omega)]
  exact ⟨vp_in_nI hq (by decide), nm_e (nm_e h)⟩
theorem hx_lin (ho : o < 64) : ∀ (q : Nat) (l1 l2 : List Nat) (lo : Nat → Int32), l1.length = q → l1.length + l2.length ≤ 63 → (∀ i, i ∈ l1 → i < 64) → hq_lh lo l1 0 → hq_lh lo l2 (q + 1) →
    ∃ (p1 p2 : List Nat) (lo' : Nat → Int32), p1 ++ p2 = l1 ∧ (∀ i, i ∈ p2 → ¬ hq_f ops i 5 ≤ x) ∧ (∀ r i, p1 = r ++ [i] → hq_f ops i 5 ≤ x) ∧ hq_lh lo' (p1 ++ o :: (p2 ++ l2)) 0 ∧
      ∀ (post : SX → Prop) (n : Nat), q < n → post (fc, hr, tr, ln, tm, cnt, lc + 1, lim, thr, cN, cX, cV, cS, cO, fs, hz, ph, oo, rA, rB, rC, m, vr, pc, sR, sC, rt, rn, ops, lo', sz) → wX_linearise_20 post (nI o) x fc hr tr ln tm cnt lc lim thr (n + 1) (nI q) (hq_pm q) cN cX cV cS cO fs hz ph oo rA rB rC m vr pc sR sC rt rn ops lo sz := by
  intro q
  induction q with
  | zero =>
    intro l1 l2 lo hl hlen hb h1 h2
    have e : l1 = [] := List.eq_nil_of_length_eq_zero hl
    subst e
    refine ⟨[], [], upd lo 0 (nI o), rfl, fun i h => by simp at h, fun r i h => by simp at h, ?_, fun post n hn h => ?_⟩
    · exact hq_lh_cons pk_us (hq_lh_upd h2 (Or.inl (by omega)))
    · unfold wX_linearise_20
      exact br_t (show (-1 : Int32) < 0 from by decide) (hx_lin_end (by omega) h)
  | succ q ih =>
    intro l1 l2 lo hl hlen hb h1 h2
    obtain ⟨r, i, rfl⟩ : ∃ r i, l1 = r ++ [i] := by
      rcases List.eq_nil_or_concat l1 with e | ⟨r, i, e⟩
      · rw [e] at hl; simp at hl
      · exact ⟨r, i, by rw [e, List.concat_eq_append]⟩
    rw [List.length_append, List.length_singleton] at hl hlen
    have hr : r.length = q := by omega
    have hi64 : i < 64 := hb i (by simp)
    have hlq : lo q = nI i := by
      have := h1 q i (by rw [List.getElem?_append_right (by omega), hr]; simp)
      rw [Nat.zero_add] at this
      exact this
    by_cases e : hq_f ops i 5 ≤ x
    · refine ⟨r ++ [i], [], upd lo (q + 1) (nI o), by simp, fun i h => by simp at h, fun r' i' h => ?_, ?_, fun post n hn h => ?_⟩
      · have := List.append_inj_right' h rfl
        simp at this
        rw [← this]; exact e
      · refine hq_lh_app (hq_lh_upd h1 (Or.inr ?_)) ?_
        · rw [List.length_append, List.length_singleton]; omega
        · rw [List.length_append, List.length_singleton, hr, Nat.zero_add]
          exact hq_lh_cons pk_us (hq_lh_upd h2 (Or.inl (by omega)))
      · unfold wX_linearise_20
        obtain ⟨n', rfl⟩ : ∃ n', n = n' + 1 := ⟨n - 1, by omega⟩
        have z : hq_pm (q + 1) = nI q := rfl
        rw [z, nI_clamp (by omega)]
        refine br_f (nI_pos (by omega)) (br_t (nI_1 q).symm ⟨vp_in_nI (by omega) (by decide), nm_r hlq ?_⟩)
        refine hx_getField 5 hi64 (by omega) (br_t e (nm_r (hq_pm_m1 q) ?_))
        unfold wX_linearise_20
        cases q with
        | zero => exact br_t (show (-1 : Int32) < 0 from by decide) (hx_lin_end (by omega) h)
        | succ q =>
          refine br_f (nI_pos (by omega)) (br_f ?_ (hx_lin_end (by omega) h))
          show ¬ nI (q + 1 + 1) = nI q + 1
          rw [nI_1, nI_eq (by omega) (by omega)]
          omega
    · obtain ⟨p1, p2, lo', k1, k2, k3, k4, k5⟩ := ih r (i :: l2) (upd lo (q + 1) (nI i)) hr (by rw [List.length_cons]; omega) (fun j hj => hb j (by simp [hj]))
        (hq_lh_upd (fun j w hw => h1 j w (by rw [List.getElem?_append_left (List.getElem?_eq_some_iff.mp hw).1]; exact hw)) (Or.inr (by omega)))
        (hq_lh_cons pk_us (hq_lh_upd h2 (Or.inl (by omega))))
      refine ⟨p1, p2 ++ [i], lo', by rw [← List.append_assoc, k1], fun j hj => ?_, k3, ?_, fun post n hn h => ?_⟩
      · rcases List.mem_append.mp hj with z | z
        · exact k2 j z
        · rw [List.mem_singleton] at z; rw [z]; exact e
      · rw [List.append_assoc]; exact k4
      · unfold wX_linearise_20
        obtain ⟨n', rfl⟩ : ∃ n', n = n' + 1 := ⟨n - 1, by omega⟩
        have z : hq_pm (q + 1) = nI q := rfl
        rw [z, nI_clamp (by omega)]
        refine br_f (nI_pos (by omega)) (br_t (nI_1 q).symm ⟨vp_in_nI (by omega) (by decide), nm_r hlq ?_⟩)
        refine hx_getField 5 hi64 (by omega) (br_f e ?_)
        rw [nI_1, nI_clamp (by omega)]
        exact ⟨vp_in_nI (by omega) (by decide), nm_e (nm_r (hq_pm_m1 q) (k5 post n' (by omega) h))⟩
end
theorem hq_li_len {ll : List Nat} {cnt o : Nat} {ops lo : Nat → Int32} (h : hq_li ll cnt ops lo) (ho : o < cnt) (h0 : hq_f ops o 5 = 0) : ll.length + 1 ≤ cnt := by
  have hn : ll.Nodup := List.Pairwise.imp (fun hij e => by rw [e] at hij; exact absurd hij (Int.lt_irrefl _)) h.2.1
  have e : ll.length = hq_cn (fun i => decide (hq_f ops i 5 ≠ 0)) cnt := hq_cn_list hn (fun i => by rw [h.2.2 i, decide_eq_true_iff])
  have e2 := hq_cn_lt (p := fun i => decide (hq_f ops i 5 ≠ 0)) (q := fun _ => true) ho (decide_eq_false (fun z => z h0)) rfl (fun _ _ _ => rfl)
  have e3 := hq_cn_le (fun _ => true) cnt
  omega
section
variable {fc hr tr ln tm cnt lc lim thr : Int32} {cN cX cV cS cO fs hz ph oo rA rB rC m vr pc sR sC rt rn ops lo sz : Nat → Int32} {t o : Nat} {x y : Int32}
theorem hx_linearise {ll : List Nat} {cn : Nat} (hli : hq_li ll cn ops lo) (hc : cn ≤ 64) (ho : o < cn) (h0 : hq_f ops o 5 = 0) (hx0 : x ≠ 0) (hne : ∀ i, i < cn → hq_f ops i 5 ≠ x) :
    ∃ (ll' : List Nat) (lo' : Nat → Int32), hq_li ll' cn (upd ops (7 * o + 5) x) lo' ∧
      ∀ post : SX → Prop, post (fc, hr, tr, ln, tm, cnt, nI ll'.length, lim, thr, cN, cX, cV, cS, cO, fs, hz, ph, oo, rA, rB, rC, m, vr, pc, sR, sC, rt, rn, upd ops (7 * o + 5) x, lo', sz) → wpX_linearise post (fc, hr, tr, ln, tm, cnt, nI ll.length, lim, thr, cN, cX, cV, cS, cO, fs, hz, ph, oo, rA, rB, rC, m, vr, pc, sR, sC, rt, rn, ops, lo, sz) (nI o) x := by
  have hlen := hq_li_len hli ho h0
  obtain ⟨a1, a2, a3⟩ := hli
  have f1 : ∀ i, i ≠ o → hq_f (upd ops (7 * o + 5) x) i 5 = hq_f ops i 5 := fun i hi => hq_fn (by omega) (by omega) (Or.inl hi)
  have f3 : hq_f (upd ops (7 * o + 5) x) o 5 = x := hq_fs
  have hno : ∀ i, i ∈ ll → i ≠ o := fun i hi e => ((a3 i).mp hi).2 (by rw [e]; exact h0)
  obtain ⟨p1, p2, lo', k1, k2, k3, k4, k5⟩ := @hx_lin fc hr tr ln tm cnt (nI ll.length) lim thr cN cX cV cS cO fs hz ph oo rA rB rC m vr pc sR sC rt rn (upd ops (7 * o + 5) x) sz o x (by omega) ll.length ll [] lo rfl (by simp; omega) (fun i hi => by have := ((a3 i).mp hi).1; omega) (fun j i h => by rw [Nat.zero_add]; exact a1 j i h) (hq_lh_nil _ _)
  rw [List.append_nil] at k4
  subst k1
  rw [List.pairwise_append] at a2
  refine ⟨p1 ++ o :: p2, lo', ⟨fun j i h => ?_, ?_, fun i => ?_⟩, fun post h => ?_⟩
  · have := k4 j i h
    rw [Nat.zero_add] at this
    exact this
  · have m1 : ∀ i, i ∈ p1 → i ≠ o := fun i hi => hno i (by simp [hi])
    have m2 : ∀ i, i ∈ p2 → i ≠ o := fun i hi => hno i (by simp [hi])
    have lt1 : ∀ i, i ∈ p1 → (hq_f ops i 5).toInt < x.toInt := by
      intro i hi
      rcases List.eq_nil_or_concat p1 with e | ⟨r, w, e⟩
      · rw [e] at hi; simp at hi
      · rw [List.concat_eq_append] at e
        have hw := k3 r w e
        have hwp : w ∈ p1 := by rw [e]; simp
        rw [f1 w (m1 w hwp), Int32.le_iff_toInt_le] at hw
        have hwc : w < cn := ((a3 w).mp (by simp [hwp])).1
        have hne2 : (hq_f ops w 5).toInt ≠ x.toInt := fun z => hne w hwc (hq_inj z)
        by_cases q : i = w
        · rw [q]; omega
        · have : i ∈ r := by
            rw [e] at hi
            rcases List.mem_append.mp hi with z | z
            · exact z
            · rw [List.mem_singleton] at z; exact absurd z q
          have pw := a2.1
          rw [e, List.pairwise_append] at pw
          have := pw.2.2 i this w (by simp)
          omega
    have lt2 : ∀ i, i ∈ p2 → x.toInt < (hq_f ops i 5).toInt := by
      intro i hi
      have := k2 i hi
      rw [f1 i (m2 i hi), Int32.le_iff_toInt_le] at this
      omega
    rw [List.pairwise_append, List.pairwise_cons]
    refine ⟨?_, ⟨fun i hi => ?_, ?_⟩, fun i hi j hj => ?_⟩
    · refine List.Pairwise.imp_of_mem ?_ a2.1
      intro i j hi hj hij
      rw [f1 i (m1 i hi), f1 j (m1 j hj)]; exact hij
    · rw [f3, f1 i (m2 i hi)]; exact lt2 i hi
    · refine List.Pairwise.imp_of_mem ?_ a2.2.1
      intro i j hi hj hij
      rw [f1 i (m2 i hi), f1 j (m2 j hj)]; exact hij
    · rw [f1 i (m1 i hi)]
      rcases List.mem_cons.mp hj with z | z
      · rw [z, f3]; exact lt1 i hi
      · rw [f1 j (m2 j z)]; exact a2.2.2 i hi j z
  · rw [List.mem_append, List.mem_cons]
    by_cases q : i = o
    · subst q
      rw [f3]
      exact ⟨fun _ => ⟨ho, hx0⟩, fun _ => Or.inr (Or.inl rfl)⟩
    · rw [f1 i q, ← a3 i, List.mem_append]
      constructor
      · rintro (z | z | z)
        · exact Or.inl z
        · exact absurd z q
        · exact Or.inr z
      · rintro (z | z)
        · exact Or.inl z
        · exact Or.inr (Or.inr z)
  · unfold wpX_linearise
    refine hx_setField 5 (by omega) (by omega) ?_
    refine nm_r (hq_pm_s1 _) ⟨_, k5 post ((p1 ++ p2).length + 1) (by omega) ?_⟩
    rw [nI_1]
    rw [show (p1 ++ p2).length + 1 = (p1 ++ o :: p2).length by simp; omega]
    exact h
end
end
section
/-! walks of the component: the enqueue's steps -/
section
variable {fc hr tr ln tm cnt lc lim thr : Int32} {cN cX cV cS cO fs hz ph oo rA rB rC m vr pc sR sC rt rn ops lo sz : Nat → Int32} {t o : Nat} {x y r : Int32}
theorem hx_v4 (ht : t < 4) : vp_in (nI t) 4 := vp_in_nI ht (by decide)
theorem hx_c4 (ht : t < 4) : (nI t).toNatClampNeg = t := nI_clamp (by omega)
theorem hx_take_ok {post : Int32 → SX → Prop} {f d : Nat} (ht : t < 4) (hf : f < 16) (ho : o < 64) (hoo : oo t = nI o) (hd : d < 16) (hfs : fs f = nI d)
    (h : post 0 (nI f, hr, tr, ln, tm, cnt, lc, lim, thr, cN, upd cX d (-1), upd cV d (hq_f ops o 2), upd cS d 0, cO, fs, hz, upd ph t 3, oo, rA, rB, rC, m, vr, upd pc t (nI d), sR, sC, rt, rn, ops, lo, sz)) : wpX_take post (nI (f + 1), hr, tr, ln, tm, cnt, lc, lim, thr, cN, cX, cV, cS, cO, fs, hz, ph, oo, rA, rB, rC, m, vr, pc, sR, sC, rt, rn, ops, lo, sz) (nI t) y := by
  unfold wpX_take
  dsimp only
  rw [hx_c4 ht, hoo]
  refine br_f (nI_nle (by omega) (by omega)) (nm_r (nI_pred f) ?_)
  rw [nI_clamp (show f < 2 ^ 31 by omega)]
  refine ⟨vp_in_nI hf (by decide), nm_r hfs ?_⟩
  rw [nI_clamp (show d < 2 ^ 31 by omega)]
  refine ⟨vp_in_nI hd (by decide), nm_e ⟨vp_in_nI hd (by decide), nm_e ⟨hx_v4 ht, ?_⟩⟩⟩
  refine hx_getField 2 ho (by omega) ⟨vp_in_nI hd (by decide), nm_e ⟨hx_v4 ht, nm_e ?_⟩⟩
  exact hx_enter ht h
theorem hx_take_scan {post : Int32 → SX → Prop} (ht : t < 4) (hrr : ¬ rn t ≤ 0) (h : post 0 (0, hr, tr, ln, tm, cnt, lc, lim, thr, cN, cX, cV, cS, cO, fs, hz, upd ph t 22, oo, rA, rB, rC, m, vr, pc, sR, sC, rt, rn, ops, lo, sz)) : wpX_take post (0, hr, tr, ln, tm, cnt, lc, lim, thr, cN, cX, cV, cS, cO, fs, hz, ph, oo, rA, rB, rC, m, vr, pc, sR, sC, rt, rn, ops, lo, sz) (nI t) 1 := by
  unfold wpX_take
  dsimp only
  rw [hx_c4 ht]
  exact br_t (by decide) (br_f (by decide) ⟨hx_v4 ht, br_f hrr (hx_enter ht h)⟩)
theorem hx_take_out1 {post : Int32 → SX → Prop} (ht : t < 4) (hrr : rn t ≤ 0) (h : wpX_finish post (0, hr, tr, ln, tm, cnt, lc, lim, thr, cN, cX, cV, cS, cO, fs, hz, ph, oo, rA, rB, rC, m, vr, pc, sR, sC, rt, rn, ops, lo, sz) (nI t) 3) : wpX_take post (0, hr, tr, ln, tm, cnt, lc, lim, thr, cN, cX, cV, cS, cO, fs, hz, ph, oo, rA, rB, rC, m, vr, pc, sR, sC, rt, rn, ops, lo, sz) (nI t) 1 := by
  unfold wpX_take
  dsimp only
  rw [hx_c4 ht]
  exact br_t (by decide) (br_f (by decide) ⟨hx_v4 ht, br_t hrr h⟩)
theorem hx_take_out2 {post : Int32 → SX → Prop} (ht : t < 4) (h : wpX_finish post (0, hr, tr, ln, tm, cnt, lc, lim, thr, cN, cX, cV, cS, cO, fs, hz, ph, oo, rA, rB, rC, m, vr, pc, sR, sC, rt, rn, ops, lo, sz) (nI t) 3) : wpX_take post (0, hr, tr, ln, tm, cnt, lc, lim, thr, cN, cX, cV, cS, cO, fs, hz, ph, oo, rA, rB, rC, m, vr, pc, sR, sC, rt, rn, ops, lo, sz) (nI t) 0 := by
  unfold wpX_take
  dsimp only
  exact br_t (by decide) (br_t rfl h)
theorem hx_e1 {post : Int32 → SX → Prop} (h : wpX_take post (fc, hr, tr, ln, tm, cnt, lc, lim, thr, cN, cX, cV, cS, cO, fs, hz, ph, oo, rA, rB, rC, m, vr, pc, sR, sC, rt, rn, ops, lo, sz) (nI t) 1) : wpX_enqueueStep post (fc, hr, tr, ln, tm, cnt, lc, lim, thr, cN, cX, cV, cS, cO, fs, hz, ph, oo, rA, rB, rC, m, vr, pc, sR, sC, rt, rn, ops, lo, sz) (nI t) 1 := by
  unfold wpX_enqueueStep
  refine br_f (by decide) (br_f (by decide) (br_t rfl ?_))
  exact h
theorem hx_e2 {post : Int32 → SX → Prop} (h : wpX_take post (fc, hr, tr, ln, tm, cnt, lc, lim, thr, cN, cX, cV, cS, cO, fs, hz, ph, oo, rA, rB, rC, m, vr, pc, sR, sC, rt, rn, ops, lo, sz) (nI t) 0) : wpX_enqueueStep post (fc, hr, tr, ln, tm, cnt, lc, lim, thr, cN, cX, cV, cS, cO, fs, hz, ph, oo, rA, rB, rC, m, vr, pc, sR, sC, rt, rn, ops, lo, sz) (nI t) 2 := by
  unfold wpX_enqueueStep
  refine br_f (by decide) (br_f (by decide) (br_f (by decide) (br_t rfl ?_)))
  exact h
theorem hx_e3 {post : Int32 → SX → Prop} (ht : t < 4) (h : post 0 (fc, hr, tr, ln, tm, cnt, lc, lim, thr, cN, cX, cV, cS, cO, fs, hz, upd ph t 4, oo, upd rA t tr, rB, rC, m, vr, pc, sR, sC, rt, rn, ops, lo, sz)) : wpX_enqueueStep post (fc, hr, tr, ln, tm, cnt, lc, lim, thr, cN, cX, cV, cS, cO, fs, hz, ph, oo, rA, rB, rC, m, vr, pc, sR, sC, rt, rn, ops, lo, sz) (nI t) 3 := by
  unfold wpX_enqueueStep
  refine br_f (by decide) (br_f (by decide) (br_f (by decide) (br_f (by decide) (br_t rfl ?_))))
  rw [hx_c4 ht]
  exact ⟨hx_v4 ht, nm_e (hx_enter ht h)⟩
theorem hx_e4 {post : Int32 → SX → Prop} (ht : t < 4) (h : post 0 (fc, hr, tr, ln, tm, cnt, lc, lim, thr, cN, cX, cV, cS, cO, fs, upd hz (2 * t) (rA t), upd ph t 5, oo, rA, rB, rC, m, vr, pc, sR, sC, rt, rn, ops, lo, sz)) : wpX_enqueueStep post (fc, hr, tr, ln, tm, cnt, lc, lim, thr, cN, cX, cV, cS, cO, fs, hz, ph, oo, rA, rB, rC, m, vr, pc, sR, sC, rt, rn, ops, lo, sz) (nI t) 4 := by
  unfold wpX_enqueueStep
  refine br_f (by decide) (br_f (by decide) (br_f (by decide) (br_f (by decide) (br_f (by decide) (br_t rfl ?_)))))
  rw [hq_m2, hx_c4 ht, nI_clamp (show 2 * t < 2 ^ 31 by omega)]
  exact ⟨hx_v4 ht, vp_in_nI (by omega) (by decide), nm_e (hx_enter ht h)⟩
theorem hx_e5a {post : Int32 → SX → Prop} (ht : t < 4) (e : tr = rA t) (h : post 0 (fc, hr, tr, ln, tm, cnt, lc, lim, thr, cN, cX, cV, cS, cO, fs, hz, upd ph t 6, oo, rA, rB, rC, m, vr, pc, sR, sC, rt, rn, ops, lo, sz)) : wpX_enqueueStep post (fc, hr, tr, ln, tm, cnt, lc, lim, thr, cN, cX, cV, cS, cO, fs, hz, ph, oo, rA, rB, rC, m, vr, pc, sR, sC, rt, rn, ops, lo, sz) (nI t) 5 := by
  unfold wpX_enqueueStep
  refine br_f (by decide) (br_f (by decide) (br_f (by decide) (br_f (by decide) (br_f (by decide) (br_f (by decide) (br_t rfl ?_))))))
  rw [hx_c4 ht]
  exact ⟨hx_v4 ht, br_t e (hx_enter ht h)⟩
theorem hx_e5b {post : Int32 → SX → Prop} (ht : t < 4) (e : ¬ tr = rA t) (h : post 0 (fc, hr, tr, ln, tm, cnt, lc, lim, thr, cN, cX, cV, cS, cO, fs, hz, upd ph t 3, oo, rA, rB, rC, m, vr, pc, sR, sC, rt, rn, ops, lo, sz)) : wpX_enqueueStep post (fc, hr, tr, ln, tm, cnt, lc, lim, thr, cN, cX, cV, cS, cO, fs, hz, ph, oo, rA, rB, rC, m, vr, pc, sR, sC, rt, rn, ops, lo, sz) (nI t) 5 := by
  unfold wpX_enqueueStep
  refine br_f (by decide) (br_f (by decide) (br_f (by decide) (br_f (by decide) (br_f (by decide) (br_f (by decide) (br_t rfl ?_))))))
  rw [hx_c4 ht]
  exact ⟨hx_v4 ht, br_f e (hx_enter ht h)⟩
theorem hx_e6 {post : Int32 → SX → Prop} (ht : t < 4) (hN : ∀ post : Int32 → Prop, post r → wpX_nextOf post (fc, hr, tr, ln, tm, cnt, lc, lim, thr, cN, cX, cV, cS, cO, fs, hz, ph, oo, rA, rB, rC, m, vr, pc, sR, sC, rt, rn, ops, lo, sz) (rA t)) (h : post 0 (fc, hr, tr, ln, tm, cnt, lc, lim, thr, cN, cX, cV, cS, cO, fs, hz, upd ph t 7, oo, rA, rB, upd rC t r, m, vr, pc, sR, sC, rt, rn, ops, lo, sz)) : wpX_enqueueStep post (fc, hr, tr, ln, tm, cnt, lc, lim, thr, cN, cX, cV, cS, cO, fs, hz, ph, oo, rA, rB, rC, m, vr, pc, sR, sC, rt, rn, ops, lo, sz) (nI t) 6 := by
  unfold wpX_enqueueStep
  refine br_f (by decide) (br_f (by decide) (br_f (by decide) (br_f (by decide) (br_f (by decide) (br_f (by decide) (br_f (by decide) (br_t rfl ?_)))))))
  rw [hx_c4 ht]
  refine ⟨hx_v4 ht, hN _ ⟨hx_v4 ht, nm_e ?_⟩⟩
  exact hx_enter ht h
theorem hx_e7a {post : Int32 → SX → Prop} (ht : t < 4) (e : tr = rA t) (e2 : rC t = -1) (h : post 0 (fc, hr, tr, ln, tm, cnt, lc, lim, thr, cN, cX, cV, cS, cO, fs, hz, upd ph t 9, oo, rA, rB, rC, m, vr, pc, sR, sC, rt, rn, ops, lo, sz)) : wpX_enqueueStep post (fc, hr, tr, ln, tm, cnt, lc, lim, thr, cN, cX, cV, cS, cO, fs, hz, ph, oo, rA, rB, rC, m, vr, pc, sR, sC, rt, rn, ops, lo, sz) (nI t) 7 := by
  unfold wpX_enqueueStep
  refine br_f (by decide) (br_f (by decide) (br_f (by decide) (br_f (by decide) (br_f (by decide) (br_f (by decide) (br_f (by decide) (br_f (by decide) (br_t rfl ?_))))))))
  unfold wpX_enqueueRecheck
  dsimp only
  rw [hx_c4 ht]
  exact ⟨hx_v4 ht, br_t e ⟨hx_v4 ht, br_t e2 (hx_enter ht h)⟩⟩
theorem hx_e7b {post : Int32 → SX → Prop} (ht : t < 4) (e : tr = rA t) (e2 : ¬ rC t = -1) (h : post 0 (fc, hr, tr, ln, tm, cnt, lc, lim, thr, cN, cX, cV, cS, cO, fs, hz, upd ph t 8, oo, rA, rB, rC, m, vr, pc, sR, sC, rt, rn, ops, lo, sz)) : wpX_enqueueStep post (fc, hr, tr, ln, tm, cnt, lc, lim, thr, cN, cX, cV, cS, cO, fs, hz, ph, oo, rA, rB, rC, m, vr, pc, sR, sC, rt, rn, ops, lo, sz) (nI t) 7 := by
  unfold wpX_enqueueStep
  refine br_f (by decide) (br_f (by decide) (br_f (by decide) (br_f (by decide) (br_f (by decide) (br_f (by decide) (br_f (by decide) (br_f (by decide) (br_t rfl ?_))))))))
  unfold wpX_enqueueRecheck
  dsimp only
  rw [hx_c4 ht]
  exact ⟨hx_v4 ht, br_t e ⟨hx_v4 ht, br_f e2 (hx_enter ht h)⟩⟩
theorem hx_e7c {post : Int32 → SX → Prop} (ht : t < 4) (e : ¬ tr = rA t) (h : post 0 (fc, hr, tr, ln, tm, cnt, lc, lim, thr, cN, cX, cV, cS, cO, fs, hz, upd ph t 3, oo, rA, rB, rC, m, vr, pc, sR, sC, rt, rn, ops, lo, sz)) : wpX_enqueueStep post (fc, hr, tr, ln, tm, cnt, lc, lim, thr, cN, cX, cV, cS, cO, fs, hz, ph, oo, rA, rB, rC, m, vr, pc, sR, sC, rt, rn, ops, lo, sz) (nI t) 7 := by
  unfold wpX_enqueueStep
  refine br_f (by decide) (br_f (by decide) (br_f (by decide) (br_f (by decide) (br_f (by decide) (br_f (by decide) (br_f (by decide) (br_f (by decide) (br_t rfl ?_))))))))
  unfold wpX_enqueueRecheck
  dsimp only
  rw [hx_c4 ht]
  exact ⟨hx_v4 ht, br_f e (hx_enter ht h)⟩
theorem hx_e8 {post : Int32 → SX → Prop} (ht : t < 4) (h : post 0 (fc, hr, if tr = rA t then rC t else tr, ln, tm, cnt, lc, lim, thr, cN, cX, cV, cS, cO, fs, hz, upd ph t 3, oo, rA, rB, rC, m, vr, pc, sR, sC, rt, rn, ops, lo, sz)) : wpX_enqueueStep post (fc, hr, tr, ln, tm, cnt, lc, lim, thr, cN, cX, cV, cS, cO, fs, hz, ph, oo, rA, rB, rC, m, vr, pc, sR, sC, rt, rn, ops, lo, sz) (nI t) 8 := by
  unfold wpX_enqueueStep
  refine br_f (by decide) (br_f (by decide) (br_f (by decide) (br_f (by decide) (br_f (by decide) (br_f (by decide) (br_f (by decide) (br_f (by decide) (br_f (by decide) (br_t rfl ?_)))))))))
  rw [hx_c4 ht]
  exact ⟨hx_v4 ht, hx_v4 ht, hx_swapTail (hx_enter ht h)⟩
theorem hx_e9f {post : Int32 → SX → Prop} (ht : t < 4) (hN : ∀ post : Int32 → Prop, post r → wpX_nextOf post (fc, hr, tr, ln, tm, cnt, lc, lim, thr, cN, cX, cV, cS, cO, fs, hz, ph, oo, rA, rB, rC, m, vr, pc, sR, sC, rt, rn, ops, lo, sz) (rA t)) (hrr : ¬ r = -1) (h : post 0 (fc, hr, tr, ln, tm, cnt, lc, lim, thr, cN, cX, cV, cS, cO, fs, hz, upd ph t 3, oo, rA, rB, rC, m, vr, pc, sR, sC, rt, rn, ops, lo, sz)) : wpX_enqueueStep post (fc, hr, tr, ln, tm, cnt, lc, lim, thr, cN, cX, cV, cS, cO, fs, hz, ph, oo, rA, rB, rC, m, vr, pc, sR, sC, rt, rn, ops, lo, sz) (nI t) 9 := by
  unfold wpX_enqueueStep
  refine br_f (by decide) (br_f (by decide) (br_f (by decide) (br_f (by decide) (br_f (by decide) (br_f (by decide) (br_f (by decide) (br_f (by decide) (br_f (by decide) (br_f (by decide) (br_t rfl ?_))))))))))
  unfold wpX_link
  dsimp only
  rw [hx_c4 ht]
  exact ⟨hx_v4 ht, nm_e (hN _ (br_f hrr (hx_enter ht h)))⟩
theorem hx_e9 {post : Int32 → SX → Prop} {L d e : Nat} {ops' lo' : Nat → Int32} {lc' : Int32} (ht : t < 4) (hL : L + 1 ≤ 64) (hN : ∀ post : Int32 → Prop, post (-1) → wpX_nextOf post (fc, hr, tr, nI L, tm, cnt, lc, lim, thr, cN, cX, cV, cS, cO, fs, hz, ph, oo, rA, rB, rC, m, vr, pc, sR, sC, rt, rn, ops, lo, sz) (rA t)) (hd : d < 16) (hpc : pc t = nI d) (he : e < 16) (hrA : rA t &&& 15 = nI e)
    (hl : ∀ post : SX → Prop, post (fc, hr, tr, nI (L + 1), tm, cnt, lc', lim, thr, upd cN d (nI (L + 1)), upd cX e (nI (16 * (L + 1) + d)), cV, upd cS d 1, cO, fs, hz, ph, oo, rA, rB, rC, m, vr, upd pc t (-1), sR, sC, rt, rn, ops', lo', sz) →
      wpX_linearise post (fc, hr, tr, nI (L + 1), tm, cnt, lc, lim, thr, upd cN d (nI (L + 1)), upd cX e (nI (16 * (L + 1) + d)), cV, upd cS d 1, cO, fs, hz, ph, oo, rA, rB, rC, m, vr, upd pc t (-1), sR, sC, rt, rn, ops, lo, sz) (oo t) tm)
    (h : post 0 (fc, hr, tr, nI (L + 1), tm, cnt, lc', lim, thr, upd cN d (nI (L + 1)), upd cX e (nI (16 * (L + 1) + d)), cV, upd cS d 1, cO, fs, hz, upd ph t 10, oo, rA, rB, rC, m, vr, upd pc t (-1), sR, sC, rt, rn, ops', lo', sz)) : wpX_enqueueStep post (fc, hr, tr, nI L, tm, cnt, lc, lim, thr, cN, cX, cV, cS, cO, fs, hz, ph, oo, rA, rB, rC, m, vr, pc, sR, sC, rt, rn, ops, lo, sz) (nI t) 9 := by
  unfold wpX_enqueueStep
  refine br_f (by decide) (br_f (by decide) (br_f (by decide) (br_f (by decide) (br_f (by decide) (br_f (by decide) (br_f (by decide) (br_f (by decide) (br_f (by decide) (br_f (by decide) (br_t rfl ?_))))))))))
  unfold wpX_link
  dsimp only
  rw [hx_c4 ht]
  refine ⟨hx_v4 ht, nm_e (hN _ (br_t rfl ⟨hx_v4 ht, nm_r hpc ⟨hx_v4 ht, nm_e (nm_r (nI_1 L) ?_)⟩⟩))⟩
  rw [nI_clamp (show d < 2 ^ 31 by omega), hrA, nI_clamp (show e < 2 ^ 31 by omega), hq_mk hL hd]
  refine ⟨vp_in_nI hd (by decide), nm_e ⟨vp_in_nI hd (by decide), nm_e ⟨vp_in_nI he (by decide), nm_e ⟨hx_v4 ht, ?_⟩⟩⟩⟩
  refine hl _ ?_
  exact hx_enter ht h
theorem hx_e10 {post : Int32 → SX → Prop} (ht : t < 4) (ho : o < 64) (hoo : oo t = nI o) (hN : ∀ post : Int32 → Prop, post r → wpX_nextOf post (fc, hr, tr, ln, tm, cnt, lc, lim, thr, cN, cX, cV, cS, cO, fs, hz, ph, oo, rA, rB, rC, m, vr, pc, sR, sC, rt, rn, ops, lo, sz) (rA t))
    (h : post 1 (fc, hr, if tr = rA t then r else tr, ln, tm, cnt, lc, lim, thr, cN, cX, cV, cS, cO, fs, upd (upd hz (2 * t) (-1)) (2 * t + 1) (-1), upd ph t 0, upd oo t (-1), upd rA t (-1), upd rB t (-1), upd rC t (-1), upd m t 0, vr, pc, hq_clr sR t, upd sC t 0, rt, rn, upd (upd ops (7 * o + 3) 1) (7 * o + 6) tm, lo, sz)) : wpX_enqueueStep post (fc, hr, tr, ln, tm, cnt, lc, lim, thr, cN, cX, cV, cS, cO, fs, hz, ph, oo, rA, rB, rC, m, vr, pc, sR, sC, rt, rn, ops, lo, sz) (nI t) 10 := by
  unfold wpX_enqueueStep
  refine br_f (by decide) (br_f (by decide) (br_f (by decide) (br_f (by decide) (br_f (by decide) (br_f (by decide) (br_f (by decide) (br_f (by decide) (br_f (by decide) (br_f (by decide) (br_f (by decide) (br_t rfl ?_)))))))))))
  unfold wpX_swing
  dsimp only
  rw [hx_c4 ht]
  refine ⟨hx_v4 ht, hN _ ⟨hx_v4 ht, hx_swapTail ?_⟩⟩
  exact hx_finish ht ho hoo h
end
end
section
/-! walks of the component: the dequeue's steps, the scan's reads -/
section
variable {fc hr tr ln tm cnt lc lim thr : Int32} {cN cX cV cS cO fs hz ph oo rA rB rC m vr pc sR sC rt rn ops lo sz : Nat → Int32} {t o : Nat} {x y r : Int32}
theorem hx_d11 {post : Int32 → SX → Prop} (ht : t < 4) (h : post 0 (fc, hr, tr, ln, tm, cnt, lc, lim, thr, cN, cX, cV, cS, cO, fs, hz, upd ph t 12, oo, upd rA t hr, rB, rC, m, vr, pc, sR, sC, rt, rn, ops, lo, sz)) : wpX_dequeueStep post (fc, hr, tr, ln, tm, cnt, lc, lim, thr, cN, cX, cV, cS, cO, fs, hz, ph, oo, rA, rB, rC, m, vr, pc, sR, sC, rt, rn, ops, lo, sz) (nI t) 11 := by
  unfold wpX_dequeueStep
  refine br_f (by decide) (br_f (by decide) (br_t rfl ?_))
  rw [hx_c4 ht]
  exact ⟨hx_v4 ht, nm_e (hx_enter ht h)⟩
theorem hx_d12 {post : Int32 → SX → Prop} (ht : t < 4) (h : post 0 (fc, hr, tr, ln, tm, cnt, lc, lim, thr, cN, cX, cV, cS, cO, fs, upd hz (2 * t) (rA t), upd ph t 13, oo, rA, rB, rC, m, vr, pc, sR, sC, rt, rn, ops, lo, sz)) : wpX_dequeueStep post (fc, hr, tr, ln, tm, cnt, lc, lim, thr, cN, cX, cV, cS, cO, fs, hz, ph, oo, rA, rB, rC, m, vr, pc, sR, sC, rt, rn, ops, lo, sz) (nI t) 12 := by
  unfold wpX_dequeueStep
  refine br_f (by decide) (br_f (by decide) (br_f (by decide) (br_t rfl ?_)))
  rw [hq_m2, hx_c4 ht, nI_clamp (show 2 * t < 2 ^ 31 by omega)]
  exact ⟨hx_v4 ht, vp_in_nI (by omega) (by decide), nm_e (hx_enter ht h)⟩
theorem hx_d13a {post : Int32 → SX → Prop} (ht : t < 4) (e : hr = rA t) (h : post 0 (fc, hr, tr, ln, tm, cnt, lc, lim, thr, cN, cX, cV, cS, cO, fs, hz, upd ph t 14, oo, rA, rB, rC, m, vr, pc, sR, sC, rt, rn, ops, lo, sz)) : wpX_dequeueStep post (fc, hr, tr, ln, tm, cnt, lc, lim, thr, cN, cX, cV, cS, cO, fs, hz, ph, oo, rA, rB, rC, m, vr, pc, sR, sC, rt, rn, ops, lo, sz) (nI t) 13 := by
  unfold wpX_dequeueStep
  refine br_f (by decide) (br_f (by decide) (br_f (by decide) (br_f (by decide) (br_t rfl ?_))))
  rw [hx_c4 ht]
  exact ⟨hx_v4 ht, br_t e (hx_enter ht h)⟩
theorem hx_d13b {post : Int32 → SX → Prop} (ht : t < 4) (e : ¬ hr = rA t) (h : post 0 (fc, hr, tr, ln, tm, cnt, lc, lim, thr, cN, cX, cV, cS, cO, fs, hz, upd ph t 11, oo, rA, rB, rC, m, vr, pc, sR, sC, rt, rn, ops, lo, sz)) : wpX_dequeueStep post (fc, hr, tr, ln, tm, cnt, lc, lim, thr, cN, cX, cV, cS, cO, fs, hz, ph, oo, rA, rB, rC, m, vr, pc, sR, sC, rt, rn, ops, lo, sz) (nI t) 13 := by
  unfold wpX_dequeueStep
  refine br_f (by decide) (br_f (by decide) (br_f (by decide) (br_f (by decide) (br_t rfl ?_))))
  rw [hx_c4 ht]
  exact ⟨hx_v4 ht, br_f e (hx_enter ht h)⟩
theorem hx_d14 {post : Int32 → SX → Prop} (ht : t < 4) (h : post 0 (fc, hr, tr, ln, tm, cnt, lc, lim, thr, cN, cX, cV, cS, cO, fs, hz, upd ph t 15, oo, rA, upd rB t tr, rC, m, vr, pc, sR, sC, rt, rn, ops, lo, sz)) : wpX_dequeueStep post (fc, hr, tr, ln, tm, cnt, lc, lim, thr, cN, cX, cV, cS, cO, fs, hz, ph, oo, rA, rB, rC, m, vr, pc, sR, sC, rt, rn, ops, lo, sz) (nI t) 14 := by
  unfold wpX_dequeueStep
  refine br_f (by decide) (br_f (by decide) (br_f (by decide) (br_f (by decide) (br_f (by decide) (br_t rfl ?_)))))
  rw [hx_c4 ht]
  exact ⟨hx_v4 ht, nm_e (hx_enter ht h)⟩
theorem hx_d15 {post : Int32 → SX → Prop} (ht : t < 4) (hN : ∀ post : Int32 → Prop, post r → wpX_nextOf post (fc, hr, tr, ln, tm, cnt, lc, lim, thr, cN, cX, cV, cS, cO, fs, hz, ph, oo, rA, rB, rC, m, vr, pc, sR, sC, rt, rn, ops, lo, sz) (rA t)) (h : post 0 (fc, hr, tr, ln, tm, cnt, lc, lim, thr, cN, cX, cV, cS, cO, fs, hz, upd ph t 16, oo, rA, rB, upd rC t r, upd m t tm, vr, pc, sR, sC, rt, rn, ops, lo, sz)) : wpX_dequeueStep post (fc, hr, tr, ln, tm, cnt, lc, lim, thr, cN, cX, cV, cS, cO, fs, hz, ph, oo, rA, rB, rC, m, vr, pc, sR, sC, rt, rn, ops, lo, sz) (nI t) 15 := by
  unfold wpX_dequeueStep
  refine br_f (by decide) (br_f (by decide) (br_f (by decide) (br_f (by decide) (br_f (by decide) (br_f (by decide) (br_t rfl ?_))))))
  rw [hx_c4 ht]
  refine ⟨hx_v4 ht, hN _ ⟨hx_v4 ht, nm_e ⟨hx_v4 ht, nm_e ?_⟩⟩⟩
  exact hx_enter ht h
theorem hx_d16 {post : Int32 → SX → Prop} (ht : t < 4) (h : post 0 (fc, hr, tr, ln, tm, cnt, lc, lim, thr, cN, cX, cV, cS, cO, fs, upd hz (2 * t + 1) (rC t), upd ph t 17, oo, rA, rB, rC, m, vr, pc, sR, sC, rt, rn, ops, lo, sz)) : wpX_dequeueStep post (fc, hr, tr, ln, tm, cnt, lc, lim, thr, cN, cX, cV, cS, cO, fs, hz, ph, oo, rA, rB, rC, m, vr, pc, sR, sC, rt, rn, ops, lo, sz) (nI t) 16 := by
  unfold wpX_dequeueStep
  refine br_f (by decide) (br_f (by decide) (br_f (by decide) (br_f (by decide) (br_f (by decide) (br_f (by decide) (br_f (by decide) (br_t rfl ?_)))))))
  rw [hq_m2, hq_a1, hx_c4 ht, nI_clamp (show 2 * t + 1 < 2 ^ 31 by omega)]
  exact ⟨hx_v4 ht, vp_in_nI (by omega) (by decide), nm_e (hx_enter ht h)⟩
theorem hx_d17a {post : Int32 → SX → Prop} (ht : t < 4) (e : ¬ hr = rA t) (h : post 0 (fc, hr, tr, ln, tm, cnt, lc, lim, thr, cN, cX, cV, cS, cO, fs, hz, upd ph t 11, oo, rA, rB, rC, m, vr, pc, sR, sC, rt, rn, ops, lo, sz)) : wpX_dequeueStep post (fc, hr, tr, ln, tm, cnt, lc, lim, thr, cN, cX, cV, cS, cO, fs, hz, ph, oo, rA, rB, rC, m, vr, pc, sR, sC, rt, rn, ops, lo, sz) (nI t) 17 := by
  unfold wpX_dequeueStep
  refine br_f (by decide) (br_f (by decide) (br_f (by decide) (br_f (by decide) (br_f (by decide) (br_f (by decide) (br_f (by decide) (br_f (by decide) (br_t rfl ?_))))))))
  unfold wpX_dequeueRecheck
  dsimp only
  rw [hx_c4 ht]
  exact ⟨hx_v4 ht, br_f e (hx_enter ht h)⟩
theorem hx_d17b {post : Int32 → SX → Prop} (ht : t < 4) (e : hr = rA t) (e2 : ¬ rC t = -1) (e3 : rA t = rB t) (h : post 0 (fc, hr, tr, ln, tm, cnt, lc, lim, thr, cN, cX, cV, cS, cO, fs, hz, upd ph t 18, oo, rA, rB, rC, m, vr, pc, sR, sC, rt, rn, ops, lo, sz)) : wpX_dequeueStep post (fc, hr, tr, ln, tm, cnt, lc, lim, thr, cN, cX, cV, cS, cO, fs, hz, ph, oo, rA, rB, rC, m, vr, pc, sR, sC, rt, rn, ops, lo, sz) (nI t) 17 := by
  unfold wpX_dequeueStep
  refine br_f (by decide) (br_f (by decide) (br_f (by decide) (br_f (by decide) (br_f (by decide) (br_f (by decide) (br_f (by decide) (br_f (by decide) (br_t rfl ?_))))))))
  unfold wpX_dequeueRecheck
  dsimp only
  rw [hx_c4 ht]
  exact ⟨hx_v4 ht, br_t e ⟨hx_v4 ht, br_f e2 ⟨hx_v4 ht, hx_v4 ht, br_t e3 (hx_enter ht h)⟩⟩⟩
theorem hx_d17c {post : Int32 → SX → Prop} (ht : t < 4) (e : hr = rA t) (e2 : ¬ rC t = -1) (e3 : ¬ rA t = rB t) (h : post 0 (fc, hr, tr, ln, tm, cnt, lc, lim, thr, cN, cX, cV, cS, cO, fs, hz, upd ph t 19, oo, rA, rB, rC, m, vr, pc, sR, sC, rt, rn, ops, lo, sz)) : wpX_dequeueStep post (fc, hr, tr, ln, tm, cnt, lc, lim, thr, cN, cX, cV, cS, cO, fs, hz, ph, oo, rA, rB, rC, m, vr, pc, sR, sC, rt, rn, ops, lo, sz) (nI t) 17 := by
  unfold wpX_dequeueStep
  refine br_f (by decide) (br_f (by decide) (br_f (by decide) (br_f (by decide) (br_f (by decide) (br_f (by decide) (br_f (by decide) (br_f (by decide) (br_t rfl ?_))))))))
  unfold wpX_dequeueRecheck
  dsimp only
  rw [hx_c4 ht]
  exact ⟨hx_v4 ht, br_t e ⟨hx_v4 ht, br_f e2 ⟨hx_v4 ht, hx_v4 ht, br_f e3 (hx_enter ht h)⟩⟩⟩
theorem hx_d17d {post : Int32 → SX → Prop} {ops' lo' : Nat → Int32} {lc' : Int32} (ht : t < 4) (ho : o < 64) (hoo : oo t = nI o) (e : hr = rA t) (e2 : rC t = -1)
    (hl : ∀ post : SX → Prop, post (fc, hr, tr, ln, tm, cnt, lc', lim, thr, cN, cX, cV, cS, cO, fs, hz, ph, oo, rA, rB, rC, m, vr, pc, sR, sC, rt, rn, ops', lo', sz) → wpX_linearise post (fc, hr, tr, ln, tm, cnt, lc, lim, thr, cN, cX, cV, cS, cO, fs, hz, ph, oo, rA, rB, rC, m, vr, pc, sR, sC, rt, rn, ops, lo, sz) (oo t) (m t))
    (h : post 2 (fc, hr, tr, ln, tm, cnt, lc', lim, thr, cN, cX, cV, cS, cO, fs, upd (upd hz (2 * t) (-1)) (2 * t + 1) (-1), upd ph t 0, upd oo t (-1), upd rA t (-1), upd rB t (-1), upd rC t (-1), upd m t 0, vr, pc, hq_clr sR t, upd sC t 0, rt, rn, upd (upd ops' (7 * o + 3) 2) (7 * o + 6) tm, lo', sz)) : wpX_dequeueStep post (fc, hr, tr, ln, tm, cnt, lc, lim, thr, cN, cX, cV, cS, cO, fs, hz, ph, oo, rA, rB, rC, m, vr, pc, sR, sC, rt, rn, ops, lo, sz) (nI t) 17 := by
  unfold wpX_dequeueStep
  refine br_f (by decide) (br_f (by decide) (br_f (by decide) (br_f (by decide) (br_f (by decide) (br_f (by decide) (br_f (by decide) (br_f (by decide) (br_t rfl ?_))))))))
  unfold wpX_dequeueRecheck
  dsimp only
  rw [hx_c4 ht]
  refine ⟨hx_v4 ht, br_t e ⟨hx_v4 ht, br_t e2 ⟨hx_v4 ht, hx_v4 ht, hl _ ?_⟩⟩⟩
  exact hx_finish ht ho hoo h
theorem hx_d18 {post : Int32 → SX → Prop} (ht : t < 4) (h : post 0 (fc, hr, if tr = rB t then rC t else tr, ln, tm, cnt, lc, lim, thr, cN, cX, cV, cS, cO, fs, hz, upd ph t 11, oo, rA, rB, rC, m, vr, pc, sR, sC, rt, rn, ops, lo, sz)) : wpX_dequeueStep post (fc, hr, tr, ln, tm, cnt, lc, lim, thr, cN, cX, cV, cS, cO, fs, hz, ph, oo, rA, rB, rC, m, vr, pc, sR, sC, rt, rn, ops, lo, sz) (nI t) 18 := by
  unfold wpX_dequeueStep
  refine br_f (by decide) (br_f (by decide) (br_f (by decide) (br_f (by decide) (br_f (by decide) (br_f (by decide) (br_f (by decide) (br_f (by decide) (br_f (by decide) (br_t rfl ?_)))))))))
  rw [hx_c4 ht]
  exact ⟨hx_v4 ht, hx_v4 ht, hx_swapTail (hx_enter ht h)⟩
theorem hx_d19 {post : Int32 → SX → Prop} {e : Nat} (ht : t < 4) (he : e < 16) (hrC : rC t &&& 15 = nI e) (h : post 0 (fc, hr, tr, ln, tm, cnt, lc, lim, thr, cN, cX, cV, cS, cO, fs, hz, upd ph t 20, oo, rA, rB, rC, m, upd vr t (cV e), pc, sR, sC, rt, rn, ops, lo, sz)) : wpX_dequeueStep post (fc, hr, tr, ln, tm, cnt, lc, lim, thr, cN, cX, cV, cS, cO, fs, hz, ph, oo, rA, rB, rC, m, vr, pc, sR, sC, rt, rn, ops, lo, sz) (nI t) 19 := by
  unfold wpX_dequeueStep
  refine br_f (by decide) (br_f (by decide) (br_f (by decide) (br_f (by decide) (br_f (by decide) (br_f (by decide) (br_f (by decide) (br_f (by decide) (br_f (by decide) (br_f (by decide) (br_t rfl ?_))))))))))
  rw [hx_c4 ht, hrC, nI_clamp (show e < 2 ^ 31 by omega)]
  exact ⟨hx_v4 ht, vp_in_nI he (by decide), hx_v4 ht, nm_e (hx_enter ht h)⟩
theorem hx_d20a {post : Int32 → SX → Prop} (ht : t < 4) (e : ¬ hr = rA t) (h : post 0 (fc, hr, tr, ln, tm, cnt, lc, lim, thr, cN, cX, cV, cS, cO, fs, hz, upd ph t 11, oo, rA, rB, rC, m, vr, pc, sR, sC, rt, rn, ops, lo, sz)) : wpX_dequeueStep post (fc, hr, tr, ln, tm, cnt, lc, lim, thr, cN, cX, cV, cS, cO, fs, hz, ph, oo, rA, rB, rC, m, vr, pc, sR, sC, rt, rn, ops, lo, sz) (nI t) 20 := by
  unfold wpX_dequeueStep
  refine br_f (by decide) (br_f (by decide) (br_f (by decide) (br_f (by decide) (br_f (by decide) (br_f (by decide) (br_f (by decide) (br_f (by decide) (br_f (by decide) (br_f (by decide) (br_f (by decide) (br_t rfl ?_)))))))))))
  unfold wpX_swapHead
  dsimp only
  rw [hx_c4 ht]
  exact ⟨hx_v4 ht, br_f e (hx_enter ht h)⟩
theorem hx_d20b {post : Int32 → SX → Prop} {e : Nat} {ops' lo' : Nat → Int32} {lc' : Int32} (ht : t < 4) (ho : o < 64) (hoo : oo t = nI o) (ee : hr = rA t) (he : e < 16) (hrA : rA t &&& 15 = nI e)
    (hl : ∀ post : SX → Prop, post (fc, rC t, tr, ln, tm, cnt, lc', lim, thr, cN, cX, cV, upd cS e 2, upd cO e (nI t), fs, hz, ph, oo, rA, rB, rC, m, vr, pc, sR, sC, rt, rn, ops', lo', sz) →
      wpX_linearise post (fc, rC t, tr, ln, tm, cnt, lc, lim, thr, cN, cX, cV, upd cS e 2, upd cO e (nI t), fs, hz, ph, oo, rA, rB, rC, m, vr, pc, sR, sC, rt, rn, upd ops (7 * o + 2) (vr t), lo, sz) (nI o) tm)
    (h : post 0 (fc, rC t, tr, ln, tm, cnt, lc', lim, thr, cN, cX, cV, upd cS e 2, upd cO e (nI t), fs, hz, upd ph t 21, oo, rA, rB, rC, m, vr, pc, sR, sC, rt, rn, ops', lo', sz)) : wpX_dequeueStep post (fc, hr, tr, ln, tm, cnt, lc, lim, thr, cN, cX, cV, cS, cO, fs, hz, ph, oo, rA, rB, rC, m, vr, pc, sR, sC, rt, rn, ops, lo, sz) (nI t) 20 := by
  unfold wpX_dequeueStep
  refine br_f (by decide) (br_f (by decide) (br_f (by decide) (br_f (by decide) (br_f (by decide) (br_f (by decide) (br_f (by decide) (br_f (by decide) (br_f (by decide) (br_f (by decide) (br_f (by decide) (br_t rfl ?_)))))))))))
  unfold wpX_swapHead
  dsimp only
  rw [hx_c4 ht, hoo]
  refine ⟨hx_v4 ht, br_t ee ⟨hx_v4 ht, nm_r hrA ⟨hx_v4 ht, nm_e ?_⟩⟩⟩
  rw [nI_clamp (show e < 2 ^ 31 by omega)]
  refine ⟨vp_in_nI he (by decide), nm_e ⟨vp_in_nI he (by decide), nm_e ⟨hx_v4 ht, hx_v4 ht, ?_⟩⟩⟩
  refine hx_setField 2 ho (by omega) ⟨hx_v4 ht, ?_⟩
  dsimp only
  rw [hoo]
  refine hl _ ?_
  exact hx_enter ht h
theorem hx_d21 {post : Int32 → SX → Prop} {e q th : Nat} (ht : t < 4) (he : e < 16) (hrA : rA t &&& 15 = nI e) (hq : q < 16) (hrn : rn t = nI q)
    (h : wX_retire_51 post (nI t) fc hr tr ln tm cnt lc lim thr cN cX cV (upd cS e 3) cO fs hz ph oo rA rB rC m vr pc sR sC (upd rt (16 * t + q) (nI e)) (upd rn t (nI (q + 1))) ops lo sz) : wpX_dequeueStep post (fc, hr, tr, ln, tm, cnt, lc, lim, thr, cN, cX, cV, cS, cO, fs, hz, ph, oo, rA, rB, rC, m, vr, pc, sR, sC, rt, rn, ops, lo, sz) (nI t) 21 := by
  unfold wpX_dequeueStep
  refine br_f (by decide) (br_f (by decide) (br_f (by decide) (br_f (by decide) (br_f (by decide) (br_f (by decide) (br_f (by decide) (br_f (by decide) (br_f (by decide) (br_f (by decide) (br_f (by decide) (br_f (by decide) (br_t rfl ?_))))))))))))
  unfold wpX_retire
  dsimp only
  rw [hx_c4 ht]
  refine ⟨hx_v4 ht, nm_r hrA ?_⟩
  rw [nI_clamp (show e < 2 ^ 31 by omega)]
  refine ⟨vp_in_nI he (by decide), nm_e ⟨hx_v4 ht, nm_r hrn (br_f (nI_ge (b := 16) hq (by decide)) ?_)⟩⟩
  rw [hq_m16, nI_add, nI_clamp (show 16 * t + q < 2 ^ 31 by omega), nI_1]
  exact ⟨vp_in_nI (by omega) (by decide), nm_e ⟨hx_v4 ht, nm_e h⟩⟩
theorem hx_ret_a {post : Int32 → SX → Prop} {q th : Nat} (ht : t < 4) (hq : q ≤ 16) (hrn : rn t = nI q) (hth : th ≤ 6) (hlt : th ≤ q)
    (h : post 0 (fc, hr, tr, ln, tm, cnt, lc, lim, nI th, cN, cX, cV, cS, cO, fs, upd (upd hz (2 * t) (-1)) (2 * t + 1) (-1), upd ph t 22, oo, upd rA t (-1), upd rB t (-1), upd rC t (-1), upd m t 0, vr, pc, sR, sC, rt, rn, ops, lo, sz)) : wX_retire_51 post (nI t) fc hr tr ln tm cnt lc lim (nI th) cN cX cV cS cO fs hz ph oo rA rB rC m vr pc sR sC rt rn ops lo sz := by
  unfold wX_retire_51
  refine hx_clearLocals ht ⟨hx_v4 ht, ?_⟩
  rw [hx_c4 ht, hrn]
  exact br_f (nI_nlt hlt (by omega)) (hx_enter ht h)
theorem hx_ret_b {post : Int32 → SX → Prop} {q th : Nat} (ht : t < 4) (ho : o < 64) (hoo : oo t = nI o) (hq : q ≤ 16) (hrn : rn t = nI q) (hth : th ≤ 6) (hlt : q < th)
    (h : post 1 (fc, hr, tr, ln, tm, cnt, lc, lim, nI th, cN, cX, cV, cS, cO, fs, upd (upd hz (2 * t) (-1)) (2 * t + 1) (-1), upd ph t 0, upd oo t (-1), upd rA t (-1), upd rB t (-1), upd rC t (-1), upd m t 0, vr, pc, hq_clr sR t, upd sC t 0, rt, rn, upd (upd ops (7 * o + 3) 1) (7 * o + 6) tm, lo, sz)) : wX_retire_51 post (nI t) fc hr tr ln tm cnt lc lim (nI th) cN cX cV cS cO fs hz ph oo rA rB rC m vr pc sR sC rt rn ops lo sz := by
  unfold wX_retire_51
  refine hx_clearLocals ht ⟨hx_v4 ht, ?_⟩
  rw [hx_c4 ht, hrn]
  refine br_t (nI_lt hlt (by omega)) (hx_finish ht ho hoo ?_)
  have e1 : upd (upd (upd (upd hz (2 * t) (-1)) (2 * t + 1) (-1)) (2 * t) (-1)) (2 * t + 1) (-1) = upd (upd hz (2 * t) (-1)) (2 * t + 1) (-1) := by
    rw [hq_us' (f := upd (upd hz (2 * t) (-1)) (2 * t + 1) (-1)) (i := 2 * t) (by rw [pk_un (by omega), pk_us]), hq_uu]
  rw [e1, hq_uu, hq_uu, hq_uu, hq_uu]
  exact h
theorem hx_scanRead {post : Int32 → SX → Prop} {j : Nat} (ht : t < 4) (hj : j < 8) (hs : sC t = nI j) (hp : ph t = 22)
    (h : post 0 (fc, hr, tr, ln, tm, cnt, lc, lim, thr, cN, cX, cV, cS, cO, fs, hz, upd ph t (if j = 7 then 23 else 22), oo, rA, rB, rC, m, vr, pc, upd sR (8 * t + j) (hz j), upd sC t (nI (j + 1)), rt, rn, ops, lo, sz)) : wpX_scanStep post (fc, hr, tr, ln, tm, cnt, lc, lim, thr, cN, cX, cV, cS, cO, fs, hz, ph, oo, rA, rB, rC, m, vr, pc, sR, sC, rt, rn, ops, lo, sz) (nI t) 22 := by
  unfold wpX_scanStep
  refine br_t rfl ?_
  unfold wpX_scanRead
  dsimp only
  rw [hx_c4 ht]
  refine ⟨hx_v4 ht, nm_r hs (br_f (nI_ge (b := 8) hj (by decide)) ⟨vp_in_nI hj (by decide), ?_⟩)⟩
  rw [hq_m8, nI_add, nI_clamp (show 8 * t + j < 2 ^ 31 by omega), nI_clamp (show j < 2 ^ 31 by omega), nI_1]
  refine ⟨vp_in_nI (by omega) (by decide), nm_e ⟨hx_v4 ht, nm_e ?_⟩⟩
  unfold wX_scanRead_39
  by_cases e : j = 7
  · rw [if_pos e] at h
    exact br_f (nI_nlt (b := 7) (by omega) (by omega)) (hx_enter ht h)
  · rw [if_neg e, hq_us' hp] at h
    exact br_t (nI_lt (b := 7) (by omega) (by decide)) h
end
end
section
/-! walks of the reference: the small methods -/
theorem hq_cn_le2 {p : Nat → Bool} {j N : Nat} (h : j ≤ N) : hq_cn p j ≤ hq_cn p N := by
  induction N with
  | zero => rw [show j = 0 by omega]; exact Nat.le_refl _
  | succ n ih =>
    by_cases e : j = n + 1
    · rw [e]; exact Nat.le_refl _
    · have := ih (by omega)
      simp only [hq_cn]
      split <;> omega
theorem hq_cn_succ (p : Nat → Bool) (j : Nat) : hq_cn p (j + 1) = hq_cn p j + (if p j = true then 1 else 0) := rfl
/-- the state of a node number, as the reference reckons it -/
def hq_ns (H L : Nat) (fa : Nat → Int32) (n : Nat) : Int32 := if n ≤ L then (if n < H then fa n else 1) else 0
section
variable {cel lim thr tm yH yT ln cnt : Int32} {ops ph a b c m s0 s1 sp lb fa ow : Nat → Int32} {t o : Nat} {x y : Int32}
theorem hy_forget {post : SY → Prop} (ht : t < 4) (h : post (cel, lim, thr, tm, yH, yT, ln, cnt, ops, ph, upd a t (-1), upd b t (-1), upd c t (-1), upd m t 0, upd s0 t (-1), upd s1 t (-1), sp, lb, fa, ow)) : wpY_forget post (cel, lim, thr, tm, yH, yT, ln, cnt, ops, ph, a, b, c, m, s0, s1, sp, lb, fa, ow) (nI t) := by
  unfold wpY_forget
  rw [hx_c4 ht]
  have h4 := hx_v4 ht
  exact ⟨h4, nm_e ⟨h4, nm_e ⟨h4, nm_e ⟨h4, nm_e ⟨h4, nm_e ⟨h4, nm_e h⟩⟩⟩⟩⟩⟩
theorem hy_unread_2 {post : SY → Prop} (ht : t < 4) : ∀ (d j : Nat) (f : Nat → Int32), j + d = 8 → post (cel, lim, thr, tm, yH, yT, ln, cnt, ops, ph, a, b, c, m, s0, s1, hq_cl f t j, lb, fa, ow) → wY_unread_2 post (nI t) cel lim thr tm yH yT ln cnt (d + 1) (nI j) ops ph a b c m s0 s1 f lb fa ow := by
  intro d
  induction d with
  | zero =>
    intro j f hj h
    rw [show j = 8 by omega] at h ⊢
    rw [hq_cl_8] at h
    unfold wY_unread_2
    exact br_t (show (8 : Int32) ≤ nI 8 from by decide) h
  | succ d ih =>
    intro j f hj h
    unfold wY_unread_2
    refine br_f (nI_ge (b := 8) (by omega) (by decide)) ?_
    rw [hq_m8, nI_add, nI_clamp (by omega)]
    refine ⟨vp_in_nI (by omega) (by decide), nm_e (nm_r (nI_1 j) ?_)⟩
    exact ih (j + 1) _ (by omega) (by rw [hq_cl_s _ _ _ (by omega)]; exact h)
theorem hy_unread {post : SY → Prop} (ht : t < 4) (h : post (cel, lim, thr, tm, yH, yT, ln, cnt, ops, ph, a, b, c, m, s0, s1, hq_clr sp t, lb, fa, ow)) : wpY_unread post (cel, lim, thr, tm, yH, yT, ln, cnt, ops, ph, a, b, c, m, s0, s1, sp, lb, fa, ow) (nI t) := by
  unfold wpY_unread
  exact ⟨9, hy_unread_2 ht 8 0 sp rfl (by rw [hq_cl_0]; exact h)⟩
theorem hy_go {post : Int32 → SY → Prop} (ht : t < 4) (h : post 0 (cel, lim, thr, tm, yH, yT, ln, cnt, ops, upd ph t x, a, b, c, m, s0, s1, sp, lb, fa, ow)) : wpY_go post (cel, lim, thr, tm, yH, yT, ln, cnt, ops, ph, a, b, c, m, s0, s1, sp, lb, fa, ow) (nI t) x := by
  unfold wpY_go
  rw [hx_c4 ht]
  exact ⟨hx_v4 ht, nm_e h⟩
theorem hy_finish {post : Int32 → SY → Prop} (ht : t < 4) (ho : o < 64) (h : post x (cel, lim, thr, tm, yH, yT, ln, cnt, upd (upd ops (7 * o + 3) x) (7 * o + 6) tm, upd ph t 0, upd a t (-1), upd b t (-1), upd c t (-1), upd m t 0, upd s0 t (-1), upd s1 t (-1), hq_clr sp t, lb, fa, ow)) : wpY_finish post (cel, lim, thr, tm, yH, yT, ln, cnt, ops, ph, a, b, c, m, s0, s1, sp, lb, fa, ow) (nI t) (nI o) x := by
  unfold wpY_finish
  rw [hq_m7, hq_a3, hq_a6, nI_clamp (show 7 * o + 3 < 2 ^ 31 by omega), nI_clamp (show 7 * o + 6 < 2 ^ 31 by omega), hx_c4 ht]
  refine ⟨vp_in_nI (by omega) (by decide), nm_e ⟨vp_in_nI (by omega) (by decide), nm_e ?_⟩⟩
  refine hy_forget ht ?_
  refine hy_unread ht ?_
  exact ⟨hx_v4 ht, nm_e h⟩
theorem hy_nextOf {post : Int32 → Prop} {n L : Nat} (hn : n ≤ 64) (hL : L ≤ 64) (h : post (if n < L then nI (n + 1) else -1)) : wpY_nextOf post (cel, lim, thr, tm, yH, yT, nI L, cnt, ops, ph, a, b, c, m, s0, s1, sp, lb, fa, ow) (nI n) := by
  unfold wpY_nextOf
  dsimp only
  refine br_f (nI_pos (by omega)) ?_
  by_cases e : n < L
  · rw [if_pos e] at h
    rw [nI_1]
    exact br_f (nI_ge e (by omega)) h
  · rw [if_neg e] at h
    exact br_t (nI_le (by omega) (by omega)) h
theorem hy_valueOf {post : Int32 → Prop} {n L : Nat} (hn1 : 1 ≤ n) (hn : n ≤ L) (hL : L ≤ 64) (ho : o < 64) (hlb : lb n = nI o) (h : post (hq_vl ops lb n)) : wpY_valueOf post (cel, lim, thr, tm, yH, yT, nI L, cnt, ops, ph, a, b, c, m, s0, s1, sp, lb, fa, ow) (nI n) := by
  unfold wpY_valueOf
  dsimp only
  unfold hq_vl hq_f at h
  rw [hlb, nI_clamp (by omega)] at h
  rw [nI_clamp (show n < 2 ^ 31 by omega), hlb, hq_m7, hq_a2, nI_clamp (show 7 * o + 2 < 2 ^ 31 by omega)]
  exact br_f (nI_nlt (b := 1) (by omega) (by omega)) (br_f (nI_nlt (by omega) (by omega)) (br_t (nI_le (b := 64) (by omega) (by decide)) ⟨vp_in_nI (by omega) (by decide), vp_in_nI (by omega) (by decide), h⟩))
theorem hy_setFate {post : SY → Prop} {n : Nat} (hn : n ≤ 64) (h : post (cel, lim, thr, tm, yH, yT, ln, cnt, ops, ph, a, b, c, m, s0, s1, sp, lb, upd fa n x, upd ow n y)) : wpY_setFate post (cel, lim, thr, tm, yH, yT, ln, cnt, ops, ph, a, b, c, m, s0, s1, sp, lb, fa, ow) (nI n) x y := by
  unfold wpY_setFate
  dsimp only
  rw [nI_clamp (show n < 2 ^ 31 by omega)]
  exact br_f (nI_pos (by omega)) (br_t (nI_le (b := 64) hn (by decide)) ⟨vp_in_nI (by omega) (by decide), nm_e ⟨vp_in_nI (by omega) (by decide), nm_e h⟩⟩)
theorem hy_nodeState {post : Int32 → Prop} {n H L : Nat} (hn : n ≤ 64) (hL : L ≤ 64) (hH : H ≤ 64) (h : post (hq_ns H L fa n)) : wpY_nodeState post (cel, lim, thr, tm, nI H, yT, nI L, cnt, ops, ph, a, b, c, m, s0, s1, sp, lb, fa, ow) (nI n) := by
  unfold wpY_nodeState
  dsimp only
  rw [nI_clamp (show n < 2 ^ 31 by omega)]
  refine br_f (nI_pos (by omega)) ?_
  unfold hq_ns at h
  by_cases e : n ≤ L
  · rw [if_pos e] at h
    refine br_f (nI_nlt e (by omega)) (br_t (nI_le (b := 64) hn (by decide)) ?_)
    by_cases e2 : n < H
    · rw [if_pos e2] at h
      exact br_t (nI_lt e2 (by omega)) ⟨vp_in_nI (by omega) (by decide), h⟩
    · rw [if_neg e2] at h
      exact br_f (nI_nlt (by omega) (by omega)) h
  · rw [if_neg e] at h
    exact br_t (nI_lt (by omega) (by omega)) h
theorem hq_ns_3 {H L n : Nat} (hHL : H ≤ L) : hq_ns H L fa n = 3 ↔ n < H ∧ fa n = 3 := by
  unfold hq_ns
  by_cases e : n ≤ L
  · rw [if_pos e]
    by_cases e2 : n < H
    · rw [if_pos e2]; exact ⟨fun z => ⟨e2, z⟩, fun z => z.2⟩
    · rw [if_neg e2]; exact ⟨fun z => absurd z (by decide), fun z => absurd z.1 e2⟩
  · rw [if_neg e]; exact ⟨fun z => absurd z (by decide), fun z => by omega⟩
theorem hy_retiredBy_4 {post : Int32 → Prop} {H L : Nat} (hL : L ≤ 64) (hHL : H ≤ L) (h : post (nI (hq_cn (hq_rb H fa ow t) 65))) : ∀ (d j : Nat), j + d = 65 → wY_retiredBy_4 post (nI t) cel lim thr tm (nI H) yT (nI L) cnt ops ph a b c m s0 s1 sp lb fa ow (d + 1) (nI (hq_cn (hq_rb H fa ow t) j)) (nI j) := by
  intro d
  induction d with
  | zero =>
    intro j hj
    rw [show j = 65 by omega]
    unfold wY_retiredBy_4
    exact br_t (show (65 : Int32) ≤ nI 65 from by decide) h
  | succ d ih =>
    intro j hj
    have hn := ih (j + 1) (by omega)
    unfold wY_retiredBy_4
    refine br_f (nI_ge (b := 65) (by omega) (by decide)) ?_
    refine hy_nodeState (by omega) hL (by omega) ?_
    rw [nI_clamp (show j < 2 ^ 31 by omega)]
    rw [hq_cn_succ _ j] at hn
    by_cases e : hq_ns H L fa j = 3
    · have e2 := (hq_ns_3 hHL).mp e
      refine br_t e ⟨vp_in_nI (by omega) (by decide), ?_⟩
      by_cases e3 : ow j = nI t
      · rw [if_pos (hq_rb_iff.mpr ⟨e2.1, e2.2, e3⟩)] at hn
        exact br_t e3 (nm_r (nI_1 _) (nm_r (nI_1 _) hn))
      · rw [if_neg (fun z => e3 (hq_rb_iff.mp z).2.2)] at hn
        exact br_f e3 (nm_r (nI_1 _) hn)
    · rw [if_neg (fun z => e ((hq_ns_3 hHL).mpr ⟨(hq_rb_iff.mp z).1, (hq_rb_iff.mp z).2.1⟩))] at hn
      exact br_f e (nm_r (nI_1 _) hn)
theorem hy_retiredBy {post : Int32 → Prop} {H L : Nat} (hL : L ≤ 64) (hHL : H ≤ L) (h : post (nI (hq_cn (hq_rb H fa ow t) 65))) : wpY_retiredBy post (cel, lim, thr, tm, nI H, yT, nI L, cnt, ops, ph, a, b, c, m, s0, s1, sp, lb, fa, ow) (nI t) := by
  unfold wpY_retiredBy
  exact ⟨66, hy_retiredBy_4 hL hHL h 65 0 rfl⟩
theorem hy_seen_2 (ht : t < 4) : ∀ (d j : Nat), j + d = 8 → (∀ i, i < j → sp (8 * t + i) ≠ x) → ∀ post : Int32 → Prop, post (if hq_se sp t x = true then 1 else 0) → wY_seen_2 post (nI t) x cel lim thr tm yH yT ln cnt ops ph a b c m s0 s1 sp lb fa ow (d + 1) (nI j) := by
  intro d
  induction d with
  | zero =>
    intro j hj hi post h
    rw [show j = 8 by omega] at hi ⊢
    unfold wY_seen_2
    rw [if_neg (by rw [hq_se_iff]; exact fun ⟨i, h1, h2⟩ => hi i h1 h2)] at h
    exact br_t (show (8 : Int32) ≤ nI 8 from by decide) h
  | succ d ih =>
    intro j hj hi post h
    unfold wY_seen_2
    rw [hq_m8, nI_add, nI_clamp (by omega)]
    refine br_f (nI_ge (b := 8) (by omega) (by decide)) ⟨vp_in_nI (by omega) (by decide), ?_⟩
    by_cases e : sp (8 * t + j) = x
    · rw [if_pos (hq_se_iff.mpr ⟨j, by omega, e⟩)] at h
      exact br_t e h
    · exact br_f e (nm_r (nI_1 j) (ih (j + 1) (by omega) (fun i hh => by
        by_cases q : i = j
        · rw [q]; exact e
        · exact hi i (by omega)) post h))
theorem hy_seen (ht : t < 4) {post : Int32 → Prop} (h : post (if hq_se sp t x = true then 1 else 0)) : wpY_seen post (cel, lim, thr, tm, yH, yT, ln, cnt, ops, ph, a, b, c, m, s0, s1, sp, lb, fa, ow) (nI t) x := by
  unfold wpY_seen
  exact ⟨9, hy_seen_2 ht 8 0 rfl (fun i h => by omega) post h⟩
theorem hy_freeCells_45 {post : Int32 → Prop} {q : Nat} (hp : ∀ s, s < 4 → 0 ≤ (ph s).toInt) (h : post (nI q)) : ∀ (d j r : Nat), j + d = 4 → r + hq_cn (hq_pv ph) j = q + hq_cn (hq_pv ph) 4 → wY_freeCells_45 post cel lim thr tm yH yT ln cnt ops ph a b c m s0 s1 sp lb fa ow (d + 1) (nI r) (nI j) := by
  intro d
  induction d with
  | zero =>
    intro j r hj hr
    rw [show j = 4 by omega] at hr ⊢
    rw [show r = q by omega]
    unfold wY_freeCells_45
    exact br_t (show (4 : Int32) ≤ nI 4 from by decide) h
  | succ d ih =>
    intro j r hj hr
    have hle := hq_cn_le2 (p := hq_pv ph) (show j + 1 ≤ 4 by omega)
    unfold wY_freeCells_45
    rw [nI_clamp (show j < 2 ^ 31 by omega)]
    refine br_f (nI_ge (b := 4) (by omega) (by decide)) ⟨hx_v4 (by omega), ?_⟩
    by_cases e : ph j < 3
    · have e' := e
      rw [Int32.lt_iff_toInt_lt, hq_i3] at e'
      refine br_t e (nm_r (nI_1 j) (ih (j + 1) r (by omega) ?_))
      rw [hq_cn_succ _ j]
      rw [if_neg (by rw [hq_pv_iff]; omega)]
      omega
    · have e' := e
      rw [Int32.lt_iff_toInt_lt, hq_i3] at e'
      refine br_f e ⟨hx_v4 (by omega), ?_⟩
      by_cases e2 : 9 < ph j
      · have e3 := e2
        rw [Int32.lt_iff_toInt_lt, hq_i9] at e3
        refine br_t e2 (nm_r (nI_1 j) (ih (j + 1) r (by omega) ?_))
        rw [hq_cn_succ _ j]
        rw [if_neg (by rw [hq_pv_iff]; omega)]
        omega
      · have e3 := e2
        rw [Int32.lt_iff_toInt_lt, hq_i9] at e3
        have hpv : hq_pv ph j = true := by rw [hq_pv_iff]; omega
        rw [hq_cn_succ _ j] at hle
        rw [if_pos hpv] at hle
        obtain ⟨r', rfl⟩ : ∃ r', r = r' + 1 := ⟨r - 1, by omega⟩
        refine br_f e2 (nm_r (pk_m1 r') (nm_r (nI_1 j) (ih (j + 1) r' (by omega) ?_)))
        rw [hq_cn_succ _ j]
        rw [if_pos hpv]
        omega
theorem hy_freeCells {post : Int32 → Prop} {H L fc cel : Nat} (hL : L ≤ 64) (hHL : H ≤ L) (hp : ∀ s, s < 4 → 0 ≤ (ph s).toInt) (hF : ∀ n, n < H → fa n = 2 ∨ fa n = 3 ∨ fa n = 4) (hct : hq_ct H L fc cel ph fa) (h : post (nI fc)) : wpY_freeCells post (nI cel, lim, thr, tm, nI H, yT, nI L, cnt, ops, ph, a, b, c, m, s0, s1, sp, lb, fa, ow) := by
  unfold hq_ct at hct
  have key : ∀ (d j r : Nat), j + d = 65 → r + hq_cn (hq_hl H L fa) j = cel → wY_freeCells_7 post (nI cel) lim thr tm (nI H) yT (nI L) cnt ops ph a b c m s0 s1 sp lb fa ow (d + 1) (nI r) (nI j) := by
    intro d
    induction d with
    | zero =>
      intro j r hj hr
      rw [show j = 65 by omega] at hr ⊢
      unfold wY_freeCells_7
      refine br_t (show (65 : Int32) ≤ nI 65 from by decide) ⟨5, hy_freeCells_45 (q := fc) hp h 4 0 r rfl ?_⟩
      show r + 0 = _
      omega
    | succ d ih =>
      intro j r hj hr
      have hle := hq_cn_le2 (p := hq_hl H L fa) (show j + 1 ≤ 65 by omega)
      rw [hq_cn_succ _ j] at hle
      unfold wY_freeCells_7
      refine br_f (nI_ge (b := 65) (by omega) (by decide)) (hy_nodeState (by omega) hL (by omega) ?_)
      by_cases e : hq_hl H L fa j = true
      · rw [if_pos e] at hle
        obtain ⟨r', rfl⟩ : ∃ r', r = r' + 1 := ⟨r - 1, by omega⟩
        have hn := ih (j + 1) r' (by omega) (by rw [hq_cn_succ _ j]; rw [if_pos e]; omega)
        rw [hq_hl_iff] at e
        unfold hq_ns
        rw [if_pos e.1]
        by_cases e2 : j < H
        · rw [if_pos e2]
          rcases e.2 with z | z | z
          · omega
          · rw [z]; exact br_f (by decide) (br_t rfl (nm_r (pk_m1 r') (nm_r (nI_1 j) hn)))
          · rw [z]; exact br_f (by decide) (br_f (by decide) (br_t rfl (nm_r (pk_m1 r') (nm_r (nI_1 j) hn))))
        · rw [if_neg e2]
          exact br_t rfl (nm_r (pk_m1 r') (nm_r (nI_1 j) hn))
      · have hn := ih (j + 1) r (by omega) (by rw [hq_cn_succ _ j]; rw [if_neg e]; omega)
        rw [hq_hl_iff] at e
        unfold hq_ns
        by_cases e1 : j ≤ L
        · rw [if_pos e1]
          by_cases e2 : j < H
          · rw [if_pos e2]
            rcases hF j e2 with z | z | z
            · exact absurd ⟨e1, Or.inr (Or.inl z)⟩ e
            · exact absurd ⟨e1, Or.inr (Or.inr z)⟩ e
            · rw [z]; exact br_f (by decide) (br_f (by decide) (br_f (by decide) (nm_r (nI_1 j) hn)))
          · exact absurd ⟨e1, Or.inl (by omega)⟩ e
        · rw [if_neg e1]
          exact br_f (by decide) (br_f (by decide) (br_f (by decide) (nm_r (nI_1 j) hn)))
  unfold wpY_freeCells
  exact ⟨66, key 65 0 cel rfl (by show cel + 0 = cel; rfl)⟩
end
end
section
/-! walks of the reference: the steps -/
section
variable {cel lim thr tm yH yT ln cnt : Int32} {ops ph a b c m s0 s1 sp lb fa ow : Nat → Int32} {t o : Nat} {x y r : Int32}
theorem hy_e12 {post : Int32 → SY → Prop} {p : Int32} (hp : p = 1 ∨ p = 2) (h : wY_enqueueStep_10 post (nI t) (nI o) p cel lim thr tm yH yT ln cnt ops ph a b c m s0 s1 sp lb fa ow) : wpY_enqueueStep post (cel, lim, thr, tm, yH, yT, ln, cnt, ops, ph, a, b, c, m, s0, s1, sp, lb, fa, ow) (nI t) (nI o) p := by
  unfold wpY_enqueueStep
  rcases hp with rfl | rfl
  · exact br_t rfl h
  · exact br_f (by decide) (br_t rfl h)
theorem hy_take_ok {post : Int32 → SY → Prop} {p : Int32} {q : Nat} (ht : t < 4) (hF : ∀ post : Int32 → Prop, post (nI q) → wpY_freeCells post (cel, lim, thr, tm, yH, yT, ln, cnt, ops, ph, a, b, c, m, s0, s1, sp, lb, fa, ow)) (hq : 0 < q) (hq2 : q ≤ 16) (h : post 0 (cel, lim, thr, tm, yH, yT, ln, cnt, ops, upd ph t 3, a, b, c, m, s0, s1, sp, lb, fa, ow)) : wY_enqueueStep_10 post (nI t) (nI o) p cel lim thr tm yH yT ln cnt ops ph a b c m s0 s1 sp lb fa ow := by
  unfold wY_enqueueStep_10
  exact hF _ (br_f (nI_nle hq (by omega)) (hy_go ht h))
theorem hy_take_scan {post : Int32 → SY → Prop} {q : Nat} (ht : t < 4) (hF : ∀ post : Int32 → Prop, post (nI 0) → wpY_freeCells post (cel, lim, thr, tm, yH, yT, ln, cnt, ops, ph, a, b, c, m, s0, s1, sp, lb, fa, ow)) (hB : ∀ post : Int32 → Prop, post (nI q) → wpY_retiredBy post (cel, lim, thr, tm, yH, yT, ln, cnt, ops, ph, a, b, c, m, s0, s1, sp, lb, fa, ow) (nI t)) (hq : 0 < q) (hq2 : q ≤ 65) (h : post 0 (cel, lim, thr, tm, yH, yT, ln, cnt, ops, upd ph t 22, a, b, c, m, s0, s1, sp, lb, fa, ow)) : wY_enqueueStep_10 post (nI t) (nI o) 1 cel lim thr tm yH yT ln cnt ops ph a b c m s0 s1 sp lb fa ow := by
  unfold wY_enqueueStep_10
  exact hF _ (br_t (show nI 0 ≤ 0 from by decide) (br_t rfl (hB _ (br_f (nI_nle hq (by omega)) (hy_go ht h)))))
theorem hy_take_out1 {post : Int32 → SY → Prop} (ht : t < 4) (hF : ∀ post : Int32 → Prop, post (nI 0) → wpY_freeCells post (cel, lim, thr, tm, yH, yT, ln, cnt, ops, ph, a, b, c, m, s0, s1, sp, lb, fa, ow)) (hB : ∀ post : Int32 → Prop, post (nI 0) → wpY_retiredBy post (cel, lim, thr, tm, yH, yT, ln, cnt, ops, ph, a, b, c, m, s0, s1, sp, lb, fa, ow) (nI t)) (h : wpY_finish post (cel, lim, thr, tm, yH, yT, ln, cnt, ops, ph, a, b, c, m, s0, s1, sp, lb, fa, ow) (nI t) (nI o) 3) : wY_enqueueStep_10 post (nI t) (nI o) 1 cel lim thr tm yH yT ln cnt ops ph a b c m s0 s1 sp lb fa ow := by
  unfold wY_enqueueStep_10
  exact hF _ (br_t (show nI 0 ≤ 0 from by decide) (br_t rfl (hB _ (br_t (show nI 0 ≤ 0 from by decide) h))))
theorem hy_take_out2 {post : Int32 → SY → Prop} (ht : t < 4) (hF : ∀ post : Int32 → Prop, post (nI 0) → wpY_freeCells post (cel, lim, thr, tm, yH, yT, ln, cnt, ops, ph, a, b, c, m, s0, s1, sp, lb, fa, ow)) (h : wpY_finish post (cel, lim, thr, tm, yH, yT, ln, cnt, ops, ph, a, b, c, m, s0, s1, sp, lb, fa, ow) (nI t) (nI o) 3) : wY_enqueueStep_10 post (nI t) (nI o) 2 cel lim thr tm yH yT ln cnt ops ph a b c m s0 s1 sp lb fa ow := by
  unfold wY_enqueueStep_10
  exact hF _ (br_t (show nI 0 ≤ 0 from by decide) (br_f (by decide) h))
theorem hy_e3 {post : Int32 → SY → Prop} (ht : t < 4) (h : post 0 (cel, lim, thr, tm, yH, yT, ln, cnt, ops, upd ph t 4, upd a t yT, b, c, m, s0, s1, sp, lb, fa, ow)) : wpY_enqueueStep post (cel, lim, thr, tm, yH, yT, ln, cnt, ops, ph, a, b, c, m, s0, s1, sp, lb, fa, ow) (nI t) (nI o) 3 := by
  unfold wpY_enqueueStep
  refine br_f (by decide) (br_f (by decide) (br_t rfl ?_))
  rw [hx_c4 ht]
  exact ⟨hx_v4 ht, nm_e (hy_go ht h)⟩
theorem hy_e4 {post : Int32 → SY → Prop} (ht : t < 4) (h : post 0 (cel, lim, thr, tm, yH, yT, ln, cnt, ops, upd ph t 5, a, b, c, m, upd s0 t (a t), s1, sp, lb, fa, ow)) : wpY_enqueueStep post (cel, lim, thr, tm, yH, yT, ln, cnt, ops, ph, a, b, c, m, s0, s1, sp, lb, fa, ow) (nI t) (nI o) 4 := by
  unfold wpY_enqueueStep
  refine br_f (by decide) (br_f (by decide) (br_f (by decide) (br_t rfl ?_)))
  rw [hx_c4 ht]
  exact ⟨hx_v4 ht, hx_v4 ht, nm_e (hy_go ht h)⟩
theorem hy_e5a {post : Int32 → SY → Prop} (ht : t < 4) (e : yT = a t) (h : post 0 (cel, lim, thr, tm, yH, yT, ln, cnt, ops, upd ph t 6, a, b, c, m, s0, s1, sp, lb, fa, ow)) : wpY_enqueueStep post (cel, lim, thr, tm, yH, yT, ln, cnt, ops, ph, a, b, c, m, s0, s1, sp, lb, fa, ow) (nI t) (nI o) 5 := by
  unfold wpY_enqueueStep
  refine br_f (by decide) (br_f (by decide) (br_f (by decide) (br_f (by decide) (br_t rfl ?_))))
  rw [hx_c4 ht]
  exact ⟨hx_v4 ht, br_t e (hy_go ht h)⟩
theorem hy_e5b {post : Int32 → SY → Prop} (ht : t < 4) (e : ¬ yT = a t) (h : post 0 (cel, lim, thr, tm, yH, yT, ln, cnt, ops, upd ph t 3, a, b, c, m, s0, s1, sp, lb, fa, ow)) : wpY_enqueueStep post (cel, lim, thr, tm, yH, yT, ln, cnt, ops, ph, a, b, c, m, s0, s1, sp, lb, fa, ow) (nI t) (nI o) 5 := by
  unfold wpY_enqueueStep
  refine br_f (by decide) (br_f (by decide) (br_f (by decide) (br_f (by decide) (br_t rfl ?_))))
  rw [hx_c4 ht]
  exact ⟨hx_v4 ht, br_f e (hy_go ht h)⟩
theorem hy_e6 {post : Int32 → SY → Prop} (ht : t < 4) (hN : ∀ post : Int32 → Prop, post r → wpY_nextOf post (cel, lim, thr, tm, yH, yT, ln, cnt, ops, ph, a, b, c, m, s0, s1, sp, lb, fa, ow) (a t)) (h : post 0 (cel, lim, thr, tm, yH, yT, ln, cnt, ops, upd ph t 7, a, b, upd c t r, m, s0, s1, sp, lb, fa, ow)) : wpY_enqueueStep post (cel, lim, thr, tm, yH, yT, ln, cnt, ops, ph, a, b, c, m, s0, s1, sp, lb, fa, ow) (nI t) (nI o) 6 := by
  unfold wpY_enqueueStep
  refine br_f (by decide) (br_f (by decide) (br_f (by decide) (br_f (by decide) (br_f (by decide) (br_t rfl ?_)))))
  rw [hx_c4 ht]
  refine ⟨hx_v4 ht, hN _ ⟨hx_v4 ht, nm_e ?_⟩⟩
  exact hy_go ht h
theorem hy_e7a {post : Int32 → SY → Prop} (ht : t < 4) (e : yT = a t) (e2 : c t = -1) (h : post 0 (cel, lim, thr, tm, yH, yT, ln, cnt, ops, upd ph t 9, a, b, c, m, s0, s1, sp, lb, fa, ow)) : wpY_enqueueStep post (cel, lim, thr, tm, yH, yT, ln, cnt, ops, ph, a, b, c, m, s0, s1, sp, lb, fa, ow) (nI t) (nI o) 7 := by
  unfold wpY_enqueueStep
  refine br_f (by decide) (br_f (by decide) (br_f (by decide) (br_f (by decide) (br_f (by decide) (br_f (by decide) (br_t rfl ?_))))))
  rw [hx_c4 ht]
  exact ⟨hx_v4 ht, br_t e ⟨hx_v4 ht, br_t e2 (hy_go ht h)⟩⟩
theorem hy_e7b {post : Int32 → SY → Prop} (ht : t < 4) (e : yT = a t) (e2 : ¬ c t = -1) (h : post 0 (cel, lim, thr, tm, yH, yT, ln, cnt, ops, upd ph t 8, a, b, c, m, s0, s1, sp, lb, fa, ow)) : wpY_enqueueStep post (cel, lim, thr, tm, yH, yT, ln, cnt, ops, ph, a, b, c, m, s0, s1, sp, lb, fa, ow) (nI t) (nI o) 7 := by
  unfold wpY_enqueueStep
  refine br_f (by decide) (br_f (by decide) (br_f (by decide) (br_f (by decide) (br_f (by decide) (br_f (by decide) (br_t rfl ?_))))))
  rw [hx_c4 ht]
  exact ⟨hx_v4 ht, br_t e ⟨hx_v4 ht, br_f e2 (hy_go ht h)⟩⟩
theorem hy_e7c {post : Int32 → SY → Prop} (ht : t < 4) (e : ¬ yT = a t) (h : post 0 (cel, lim, thr, tm, yH, yT, ln, cnt, ops, upd ph t 3, a, b, c, m, s0, s1, sp, lb, fa, ow)) : wpY_enqueueStep post (cel, lim, thr, tm, yH, yT, ln, cnt, ops, ph, a, b, c, m, s0, s1, sp, lb, fa, ow) (nI t) (nI o) 7 := by
  unfold wpY_enqueueStep
  refine br_f (by decide) (br_f (by decide) (br_f (by decide) (br_f (by decide) (br_f (by decide) (br_f (by decide) (br_t rfl ?_))))))
  rw [hx_c4 ht]
  exact ⟨hx_v4 ht, br_f e (hy_go ht h)⟩
theorem hy_e8a {post : Int32 → SY → Prop} (ht : t < 4) (e : yT = a t) (h : post 0 (cel, lim, thr, tm, yH, c t, ln, cnt, ops, upd ph t 3, a, b, c, m, s0, s1, sp, lb, fa, ow)) : wpY_enqueueStep post (cel, lim, thr, tm, yH, yT, ln, cnt, ops, ph, a, b, c, m, s0, s1, sp, lb, fa, ow) (nI t) (nI o) 8 := by
  unfold wpY_enqueueStep
  refine br_f (by decide) (br_f (by decide) (br_f (by decide) (br_f (by decide) (br_f (by decide) (br_f (by decide) (br_f (by decide) (br_t rfl ?_)))))))
  rw [hx_c4 ht]
  exact ⟨hx_v4 ht, br_t e ⟨hx_v4 ht, nm_e (hy_go ht h)⟩⟩
theorem hy_e8b {post : Int32 → SY → Prop} (ht : t < 4) (e : ¬ yT = a t) (h : post 0 (cel, lim, thr, tm, yH, yT, ln, cnt, ops, upd ph t 3, a, b, c, m, s0, s1, sp, lb, fa, ow)) : wpY_enqueueStep post (cel, lim, thr, tm, yH, yT, ln, cnt, ops, ph, a, b, c, m, s0, s1, sp, lb, fa, ow) (nI t) (nI o) 8 := by
  unfold wpY_enqueueStep
  refine br_f (by decide) (br_f (by decide) (br_f (by decide) (br_f (by decide) (br_f (by decide) (br_f (by decide) (br_f (by decide) (br_t rfl ?_)))))))
  rw [hx_c4 ht]
  exact ⟨hx_v4 ht, br_f e (hy_go ht h)⟩
theorem hy_e9f {post : Int32 → SY → Prop} (ht : t < 4) (hN : ∀ post : Int32 → Prop, post r → wpY_nextOf post (cel, lim, thr, tm, yH, yT, ln, cnt, ops, ph, a, b, c, m, s0, s1, sp, lb, fa, ow) (a t)) (hr : ¬ r = -1) (h : post 0 (cel, lim, thr, tm, yH, yT, ln, cnt, ops, upd ph t 3, a, b, c, m, s0, s1, sp, lb, fa, ow)) : wpY_enqueueStep post (cel, lim, thr, tm, yH, yT, ln, cnt, ops, ph, a, b, c, m, s0, s1, sp, lb, fa, ow) (nI t) (nI o) 9 := by
  unfold wpY_enqueueStep
  refine br_f (by decide) (br_f (by decide) (br_f (by decide) (br_f (by decide) (br_f (by decide) (br_f (by decide) (br_f (by decide) (br_f (by decide) (br_t rfl ?_))))))))
  rw [hx_c4 ht]
  exact ⟨hx_v4 ht, hN _ (br_f hr (hy_go ht h))⟩
theorem hy_e9 {post : Int32 → SY → Prop} {L : Nat} (ht : t < 4) (ho : o < 64) (hL : L + 1 ≤ 64) (hN : ∀ post : Int32 → Prop, post (-1) → wpY_nextOf post (cel, lim, thr, tm, yH, yT, nI L, cnt, ops, ph, a, b, c, m, s0, s1, sp, lb, fa, ow) (a t))
    (h : post 0 (cel, lim, thr, tm, yH, yT, nI (L + 1), cnt, upd ops (7 * o + 5) tm, upd ph t 10, a, b, c, m, s0, s1, sp, upd lb (L + 1) (nI o), fa, ow)) : wpY_enqueueStep post (cel, lim, thr, tm, yH, yT, nI L, cnt, ops, ph, a, b, c, m, s0, s1, sp, lb, fa, ow) (nI t) (nI o) 9 := by
  unfold wpY_enqueueStep
  refine br_f (by decide) (br_f (by decide) (br_f (by decide) (br_f (by decide) (br_f (by decide) (br_f (by decide) (br_f (by decide) (br_f (by decide) (br_t rfl ?_))))))))
  rw [hx_c4 ht]
  refine ⟨hx_v4 ht, hN _ (br_t rfl (nm_r (nI_1 L) (br_f (nI_pos (by omega)) (br_f (nI_ge (b := 65) (by omega) (by decide)) ?_))))⟩
  rw [nI_clamp (show L + 1 < 2 ^ 31 by omega)]
  refine ⟨vp_in_nI (by omega) (by decide), nm_e ?_⟩
  unfold wY_enqueueStep_304
  rw [hq_m7, hq_a5, nI_clamp (show 7 * o + 5 < 2 ^ 31 by omega)]
  exact ⟨vp_in_nI (by omega) (by decide), nm_e (hy_go ht h)⟩
theorem hy_e10a {post : Int32 → SY → Prop} (ht : t < 4) (ho : o < 64) (e : yT = a t)
    (h : post 1 (cel, lim, thr, tm, yH, a t + 1, ln, cnt, upd (upd ops (7 * o + 3) 1) (7 * o + 6) tm, upd ph t 0, upd a t (-1), upd b t (-1), upd c t (-1), upd m t 0, upd s0 t (-1), upd s1 t (-1), hq_clr sp t, lb, fa, ow)) : wpY_enqueueStep post (cel, lim, thr, tm, yH, yT, ln, cnt, ops, ph, a, b, c, m, s0, s1, sp, lb, fa, ow) (nI t) (nI o) 10 := by
  unfold wpY_enqueueStep
  refine br_f (by decide) (br_f (by decide) (br_f (by decide) (br_f (by decide) (br_f (by decide) (br_f (by decide) (br_f (by decide) (br_f (by decide) (br_f (by decide) ?_))))))))
  rw [hx_c4 ht]
  exact ⟨hx_v4 ht, br_t e ⟨hx_v4 ht, nm_e (hy_finish ht ho h)⟩⟩
theorem hy_e10b {post : Int32 → SY → Prop} (ht : t < 4) (ho : o < 64) (e : ¬ yT = a t)
    (h : post 1 (cel, lim, thr, tm, yH, yT, ln, cnt, upd (upd ops (7 * o + 3) 1) (7 * o + 6) tm, upd ph t 0, upd a t (-1), upd b t (-1), upd c t (-1), upd m t 0, upd s0 t (-1), upd s1 t (-1), hq_clr sp t, lb, fa, ow)) : wpY_enqueueStep post (cel, lim, thr, tm, yH, yT, ln, cnt, ops, ph, a, b, c, m, s0, s1, sp, lb, fa, ow) (nI t) (nI o) 10 := by
  unfold wpY_enqueueStep
  refine br_f (by decide) (br_f (by decide) (br_f (by decide) (br_f (by decide) (br_f (by decide) (br_f (by decide) (br_f (by decide) (br_f (by decide) (br_f (by decide) ?_))))))))
  rw [hx_c4 ht]
  exact ⟨hx_v4 ht, br_f e (hy_finish ht ho h)⟩
theorem hy_d11 {post : Int32 → SY → Prop} (ht : t < 4) (h : post 0 (cel, lim, thr, tm, yH, yT, ln, cnt, ops, upd ph t 12, upd a t yH, b, c, m, s0, s1, sp, lb, fa, ow)) : wpY_dequeueStep post (cel, lim, thr, tm, yH, yT, ln, cnt, ops, ph, a, b, c, m, s0, s1, sp, lb, fa, ow) (nI t) (nI o) 11 := by
  unfold wpY_dequeueStep
  refine br_t rfl ?_
  rw [hx_c4 ht]
  exact ⟨hx_v4 ht, nm_e (hy_go ht h)⟩
theorem hy_d12 {post : Int32 → SY → Prop} (ht : t < 4) (h : post 0 (cel, lim, thr, tm, yH, yT, ln, cnt, ops, upd ph t 13, a, b, c, m, upd s0 t (a t), s1, sp, lb, fa, ow)) : wpY_dequeueStep post (cel, lim, thr, tm, yH, yT, ln, cnt, ops, ph, a, b, c, m, s0, s1, sp, lb, fa, ow) (nI t) (nI o) 12 := by
  unfold wpY_dequeueStep
  refine br_f (by decide) (br_t rfl ?_)
  rw [hx_c4 ht]
  exact ⟨hx_v4 ht, hx_v4 ht, nm_e (hy_go ht h)⟩
theorem hy_d13a {post : Int32 → SY → Prop} (ht : t < 4) (e : yH = a t) (h : post 0 (cel, lim, thr, tm, yH, yT, ln, cnt, ops, upd ph t 14, a, b, c, m, s0, s1, sp, lb, fa, ow)) : wpY_dequeueStep post (cel, lim, thr, tm, yH, yT, ln, cnt, ops, ph, a, b, c, m, s0, s1, sp, lb, fa, ow) (nI t) (nI o) 13 := by
  unfold wpY_dequeueStep
  refine br_f (by decide) (br_f (by decide) (br_t rfl ?_))
  rw [hx_c4 ht]
  exact ⟨hx_v4 ht, br_t e (hy_go ht h)⟩
theorem hy_d13b {post : Int32 → SY → Prop} (ht : t < 4) (e : ¬ yH = a t) (h : post 0 (cel, lim, thr, tm, yH, yT, ln, cnt, ops, upd ph t 11, a, b, c, m, s0, s1, sp, lb, fa, ow)) : wpY_dequeueStep post (cel, lim, thr, tm, yH, yT, ln, cnt, ops, ph, a, b, c, m, s0, s1, sp, lb, fa, ow) (nI t) (nI o) 13 := by
  unfold wpY_dequeueStep
  refine br_f (by decide) (br_f (by decide) (br_t rfl ?_))
  rw [hx_c4 ht]
  exact ⟨hx_v4 ht, br_f e (hy_go ht h)⟩
theorem hy_d14 {post : Int32 → SY → Prop} (ht : t < 4) (h : post 0 (cel, lim, thr, tm, yH, yT, ln, cnt, ops, upd ph t 15, a, upd b t yT, c, m, s0, s1, sp, lb, fa, ow)) : wpY_dequeueStep post (cel, lim, thr, tm, yH, yT, ln, cnt, ops, ph, a, b, c, m, s0, s1, sp, lb, fa, ow) (nI t) (nI o) 14 := by
  unfold wpY_dequeueStep
  refine br_f (by decide) (br_f (by decide) (br_f (by decide) (br_t rfl ?_)))
  rw [hx_c4 ht]
  exact ⟨hx_v4 ht, nm_e (hy_go ht h)⟩
theorem hy_d15 {post : Int32 → SY → Prop} (ht : t < 4) (hN : ∀ post : Int32 → Prop, post r → wpY_nextOf post (cel, lim, thr, tm, yH, yT, ln, cnt, ops, ph, a, b, c, m, s0, s1, sp, lb, fa, ow) (a t)) (h : post 0 (cel, lim, thr, tm, yH, yT, ln, cnt, ops, upd ph t 16, a, b, upd c t r, upd m t tm, s0, s1, sp, lb, fa, ow)) : wpY_dequeueStep post (cel, lim, thr, tm, yH, yT, ln, cnt, ops, ph, a, b, c, m, s0, s1, sp, lb, fa, ow) (nI t) (nI o) 15 := by
  unfold wpY_dequeueStep
  refine br_f (by decide) (br_f (by decide) (br_f (by decide) (br_f (by decide) (br_t rfl ?_))))
  rw [hx_c4 ht]
  refine ⟨hx_v4 ht, hN _ ⟨hx_v4 ht, nm_e ⟨hx_v4 ht, nm_e ?_⟩⟩⟩
  exact hy_go ht h
theorem hy_d16 {post : Int32 → SY → Prop} (ht : t < 4) (h : post 0 (cel, lim, thr, tm, yH, yT, ln, cnt, ops, upd ph t 17, a, b, c, m, s0, upd s1 t (c t), sp, lb, fa, ow)) : wpY_dequeueStep post (cel, lim, thr, tm, yH, yT, ln, cnt, ops, ph, a, b, c, m, s0, s1, sp, lb, fa, ow) (nI t) (nI o) 16 := by
  unfold wpY_dequeueStep
  refine br_f (by decide) (br_f (by decide) (br_f (by decide) (br_f (by decide) (br_f (by decide) (br_t rfl ?_)))))
  rw [hx_c4 ht]
  exact ⟨hx_v4 ht, hx_v4 ht, nm_e (hy_go ht h)⟩
theorem hy_d17a {post : Int32 → SY → Prop} (ht : t < 4) (e : ¬ yH = a t) (h : post 0 (cel, lim, thr, tm, yH, yT, ln, cnt, ops, upd ph t 11, a, b, c, m, s0, s1, sp, lb, fa, ow)) : wpY_dequeueStep post (cel, lim, thr, tm, yH, yT, ln, cnt, ops, ph, a, b, c, m, s0, s1, sp, lb, fa, ow) (nI t) (nI o) 17 := by
  unfold wpY_dequeueStep
  refine br_f (by decide) (br_f (by decide) (br_f (by decide) (br_f (by decide) (br_f (by decide) (br_f (by decide) (br_t rfl ?_))))))
  rw [hx_c4 ht]
  exact ⟨hx_v4 ht, br_f e (hy_go ht h)⟩
theorem hy_d17b {post : Int32 → SY → Prop} (ht : t < 4) (e : yH = a t) (e2 : ¬ c t = -1) (e3 : a t = b t) (h : post 0 (cel, lim, thr, tm, yH, yT, ln, cnt, ops, upd ph t 18, a, b, c, m, s0, s1, sp, lb, fa, ow)) : wpY_dequeueStep post (cel, lim, thr, tm, yH, yT, ln, cnt, ops, ph, a, b, c, m, s0, s1, sp, lb, fa, ow) (nI t) (nI o) 17 := by
  unfold wpY_dequeueStep
  refine br_f (by decide) (br_f (by decide) (br_f (by decide) (br_f (by decide) (br_f (by decide) (br_f (by decide) (br_t rfl ?_))))))
  rw [hx_c4 ht]
  exact ⟨hx_v4 ht, br_t e ⟨hx_v4 ht, br_f e2 ⟨hx_v4 ht, hx_v4 ht, br_t e3 (hy_go ht h)⟩⟩⟩
theorem hy_d17c {post : Int32 → SY → Prop} (ht : t < 4) (e : yH = a t) (e2 : ¬ c t = -1) (e3 : ¬ a t = b t) (h : post 0 (cel, lim, thr, tm, yH, yT, ln, cnt, ops, upd ph t 19, a, b, c, m, s0, s1, sp, lb, fa, ow)) : wpY_dequeueStep post (cel, lim, thr, tm, yH, yT, ln, cnt, ops, ph, a, b, c, m, s0, s1, sp, lb, fa, ow) (nI t) (nI o) 17 := by
  unfold wpY_dequeueStep
  refine br_f (by decide) (br_f (by decide) (br_f (by decide) (br_f (by decide) (br_f (by decide) (br_f (by decide) (br_t rfl ?_))))))
  rw [hx_c4 ht]
  exact ⟨hx_v4 ht, br_t e ⟨hx_v4 ht, br_f e2 ⟨hx_v4 ht, hx_v4 ht, br_f e3 (hy_go ht h)⟩⟩⟩
theorem hy_d17d {post : Int32 → SY → Prop} (ht : t < 4) (ho : o < 64) (e : yH = a t) (e2 : c t = -1)
    (h : post 2 (cel, lim, thr, tm, yH, yT, ln, cnt, upd (upd (upd ops (7 * o + 5) (m t)) (7 * o + 3) 2) (7 * o + 6) tm, upd ph t 0, upd a t (-1), upd b t (-1), upd c t (-1), upd m t 0, upd s0 t (-1), upd s1 t (-1), hq_clr sp t, lb, fa, ow)) : wpY_dequeueStep post (cel, lim, thr, tm, yH, yT, ln, cnt, ops, ph, a, b, c, m, s0, s1, sp, lb, fa, ow) (nI t) (nI o) 17 := by
  unfold wpY_dequeueStep
  refine br_f (by decide) (br_f (by decide) (br_f (by decide) (br_f (by decide) (br_f (by decide) (br_f (by decide) (br_t rfl ?_))))))
  rw [hx_c4 ht, hq_m7, hq_a5, nI_clamp (show 7 * o + 5 < 2 ^ 31 by omega)]
  exact ⟨hx_v4 ht, br_t e ⟨hx_v4 ht, br_t e2 ⟨hx_v4 ht, vp_in_nI (by omega) (by decide), nm_e (hy_finish ht ho h)⟩⟩⟩
theorem hy_d18a {post : Int32 → SY → Prop} (ht : t < 4) (e : yT = b t) (h : post 0 (cel, lim, thr, tm, yH, c t, ln, cnt, ops, upd ph t 11, a, b, c, m, s0, s1, sp, lb, fa, ow)) : wpY_dequeueStep post (cel, lim, thr, tm, yH, yT, ln, cnt, ops, ph, a, b, c, m, s0, s1, sp, lb, fa, ow) (nI t) (nI o) 18 := by
  unfold wpY_dequeueStep
  refine br_f (by decide) (br_f (by decide) (br_f (by decide) (br_f (by decide) (br_f (by decide) (br_f (by decide) (br_f (by decide) (br_t rfl ?_)))))))
  rw [hx_c4 ht]
  exact ⟨hx_v4 ht, br_t e ⟨hx_v4 ht, nm_e (hy_go ht h)⟩⟩
theorem hy_d18b {post : Int32 → SY → Prop} (ht : t < 4) (e : ¬ yT = b t) (h : post 0 (cel, lim, thr, tm, yH, yT, ln, cnt, ops, upd ph t 11, a, b, c, m, s0, s1, sp, lb, fa, ow)) : wpY_dequeueStep post (cel, lim, thr, tm, yH, yT, ln, cnt, ops, ph, a, b, c, m, s0, s1, sp, lb, fa, ow) (nI t) (nI o) 18 := by
  unfold wpY_dequeueStep
  refine br_f (by decide) (br_f (by decide) (br_f (by decide) (br_f (by decide) (br_f (by decide) (br_f (by decide) (br_f (by decide) (br_t rfl ?_)))))))
  rw [hx_c4 ht]
  exact ⟨hx_v4 ht, br_f e (hy_go ht h)⟩
theorem hy_d19 {post : Int32 → SY → Prop} (ht : t < 4) (h : post 0 (cel, lim, thr, tm, yH, yT, ln, cnt, ops, upd ph t 20, a, b, c, m, s0, s1, sp, lb, fa, ow)) : wpY_dequeueStep post (cel, lim, thr, tm, yH, yT, ln, cnt, ops, ph, a, b, c, m, s0, s1, sp, lb, fa, ow) (nI t) (nI o) 19 := by
  unfold wpY_dequeueStep
  refine br_f (by decide) (br_f (by decide) (br_f (by decide) (br_f (by decide) (br_f (by decide) (br_f (by decide) (br_f (by decide) (br_f (by decide) (br_t rfl ?_))))))))
  exact hy_go ht h
theorem hy_d20a {post : Int32 → SY → Prop} (ht : t < 4) (e : ¬ yH = a t) (h : post 0 (cel, lim, thr, tm, yH, yT, ln, cnt, ops, upd ph t 11, a, b, c, m, s0, s1, sp, lb, fa, ow)) : wpY_dequeueStep post (cel, lim, thr, tm, yH, yT, ln, cnt, ops, ph, a, b, c, m, s0, s1, sp, lb, fa, ow) (nI t) (nI o) 20 := by
  unfold wpY_dequeueStep
  refine br_f (by decide) (br_f (by decide) (br_f (by decide) (br_f (by decide) (br_f (by decide) (br_f (by decide) (br_f (by decide) (br_f (by decide) (br_f (by decide) (br_t rfl ?_)))))))))
  rw [hx_c4 ht]
  exact ⟨hx_v4 ht, br_f e (hy_go ht h)⟩
theorem hy_d20b {post : Int32 → SY → Prop} {H L q : Nat} (ht : t < 4) (ho : o < 64) (e : yH = a t) (hH : H + 1 ≤ L) (hL : L ≤ 64) (ha : a t = nI H) (hc : c t = nI (H + 1)) (hq : q < 64) (hlb : lb (H + 1) = nI q)
    (h : post 0 (cel, lim, thr, tm, nI (H + 1), yT, nI L, cnt, upd (upd ops (7 * o + 2) (hq_vl ops lb (H + 1))) (7 * o + 5) tm, upd ph t 21, a, b, c, m, s0, s1, sp, lb, upd fa H 2, upd ow H (nI t))) : wpY_dequeueStep post (cel, lim, thr, tm, yH, yT, nI L, cnt, ops, ph, a, b, c, m, s0, s1, sp, lb, fa, ow) (nI t) (nI o) 20 := by
  unfold wpY_dequeueStep
  refine br_f (by decide) (br_f (by decide) (br_f (by decide) (br_f (by decide) (br_f (by decide) (br_f (by decide) (br_f (by decide) (br_f (by decide) (br_f (by decide) (br_t rfl ?_)))))))))
  rw [hx_c4 ht]
  refine ⟨hx_v4 ht, br_t e ⟨hx_v4 ht, nm_r hc ⟨hx_v4 ht, ?_⟩⟩⟩
  rw [ha]
  refine hy_setFate (by omega) ⟨hx_v4 ht, ?_⟩
  rw [hc]
  refine hy_valueOf (by omega) hH hL hq hlb ?_
  rw [hq_m7, hq_a2, hq_a5, nI_clamp (show 7 * o + 2 < 2 ^ 31 by omega), nI_clamp (show 7 * o + 5 < 2 ^ 31 by omega)]
  exact ⟨vp_in_nI (by omega) (by decide), nm_e ⟨vp_in_nI (by omega) (by decide), nm_e (hy_go ht h)⟩⟩
theorem hy_d21a {post : Int32 → SY → Prop} {H L n q th : Nat} (ht : t < 4) (hHL : H ≤ L) (hL : L ≤ 64) (hn : n ≤ 64) (ha : a t = nI n) (hq : hq_cn (hq_rb H (upd fa n 3) (upd ow n (nI t)) t) 65 = q) (hq2 : q ≤ 65) (hlt : th ≤ q)
    (h : post 0 (cel, lim, nI th, tm, nI H, yT, nI L, cnt, ops, upd ph t 22, upd a t (-1), upd b t (-1), upd c t (-1), upd m t 0, upd s0 t (-1), upd s1 t (-1), sp, lb, upd fa n 3, upd ow n (nI t))) : wpY_dequeueStep post (cel, lim, nI th, tm, nI H, yT, nI L, cnt, ops, ph, a, b, c, m, s0, s1, sp, lb, fa, ow) (nI t) (nI o) 21 := by
  unfold wpY_dequeueStep
  refine br_f (by decide) (br_f (by decide) (br_f (by decide) (br_f (by decide) (br_f (by decide) (br_f (by decide) (br_f (by decide) (br_f (by decide) (br_f (by decide) (br_f (by decide) ?_)))))))))
  rw [hx_c4 ht]
  refine ⟨hx_v4 ht, ?_⟩
  rw [ha]
  refine hy_setFate hn ?_
  refine hy_forget ht ?_
  refine hy_retiredBy hL hHL ?_
  rw [hq]
  exact br_f (nI_nlt hlt (by omega)) (hy_go ht h)
theorem hy_d21b {post : Int32 → SY → Prop} {H L n q th : Nat} (ht : t < 4) (ho : o < 64) (hHL : H ≤ L) (hL : L ≤ 64) (hn : n ≤ 64) (ha : a t = nI n) (hq : hq_cn (hq_rb H (upd fa n 3) (upd ow n (nI t)) t) 65 = q) (hq2 : q ≤ 65) (hth : th ≤ 6) (hlt : q < th)
    (h : post 1 (cel, lim, nI th, tm, nI H, yT, nI L, cnt, upd (upd ops (7 * o + 3) 1) (7 * o + 6) tm, upd ph t 0, upd a t (-1), upd b t (-1), upd c t (-1), upd m t 0, upd s0 t (-1), upd s1 t (-1), hq_clr sp t, lb, upd fa n 3, upd ow n (nI t))) : wpY_dequeueStep post (cel, lim, nI th, tm, nI H, yT, nI L, cnt, ops, ph, a, b, c, m, s0, s1, sp, lb, fa, ow) (nI t) (nI o) 21 := by
  unfold wpY_dequeueStep
  refine br_f (by decide) (br_f (by decide) (br_f (by decide) (br_f (by decide) (br_f (by decide) (br_f (by decide) (br_f (by decide) (br_f (by decide) (br_f (by decide) (br_f (by decide) ?_)))))))))
  rw [hx_c4 ht]
  refine ⟨hx_v4 ht, ?_⟩
  rw [ha]
  refine hy_setFate hn ?_
  refine hy_forget ht ?_
  refine hy_retiredBy hL hHL ?_
  rw [hq]
  refine br_t (nI_lt hlt (by omega)) (hy_finish ht ho ?_)
  rw [hq_uu, hq_uu, hq_uu, hq_uu, hq_uu, hq_uu]
  exact h
end
end
section
/-! the scan: the reference's reads and sweep, the component's sweep -/
/-- f with x at the numbers of S -/
def hq_sw (f : Nat → Int32) (S : Nat → Bool) (x : Int32) : Nat → Int32 := fun n => if S n = true then x else f n
theorem hq_sw_t {f : Nat → Int32} {S : Nat → Bool} {x : Int32} {n : Nat} (h : S n = true) : hq_sw f S x n = x := if_pos h
theorem hq_sw_f {f : Nat → Int32} {S : Nat → Bool} {x : Int32} {n : Nat} (h : ¬ S n = true) : hq_sw f S x n = f n := if_neg h
/-- the numbers below j of S -/
def hq_sb (S : Nat → Bool) (j n : Nat) : Bool := decide (n < j) && S n
theorem hq_sb_iff {S : Nat → Bool} {j n : Nat} : hq_sb S j n = true ↔ n < j ∧ S n = true := by
  unfold hq_sb
  rw [Bool.and_eq_true, decide_eq_true_iff]
theorem hq_sw_0 (f : Nat → Int32) (S : Nat → Bool) (x : Int32) : hq_sw f (hq_sb S 0) x = f := funext fun n => hq_sw_f (by rw [hq_sb_iff]; omega)
theorem hq_sw_s {f : Nat → Int32} {S : Nat → Bool} {x : Int32} {j : Nat} (h : S j = true) : upd (hq_sw f (hq_sb S j) x) j x = hq_sw f (hq_sb S (j + 1)) x := funext fun n => by
  by_cases e : n = j
  · subst e
    rw [pk_us, hq_sw_t (by rw [hq_sb_iff]; exact ⟨by omega, h⟩)]
  · rw [pk_un e]
    by_cases q : hq_sb S j n = true
    · rw [hq_sw_t q, hq_sw_t (by rw [hq_sb_iff] at q ⊢; exact ⟨by omega, q.2⟩)]
    · rw [hq_sw_f q, hq_sw_f (by rw [hq_sb_iff] at q ⊢; exact fun z => q ⟨by omega, z.2⟩)]
theorem hq_sw_n {f : Nat → Int32} {S : Nat → Bool} {x : Int32} {j : Nat} (h : ¬ S j = true) : hq_sw f (hq_sb S j) x = hq_sw f (hq_sb S (j + 1)) x := funext fun n => by
  by_cases q : hq_sb S j n = true
  · rw [hq_sw_t q, hq_sw_t (by rw [hq_sb_iff] at q ⊢; exact ⟨by omega, q.2⟩)]
  · rw [hq_sw_f q, hq_sw_f (by
      rw [hq_sb_iff] at q ⊢
      intro z
      by_cases e : n = j
      · exact h (by rw [← e]; exact z.2)
      · exact q ⟨by omega, z.2⟩)]
theorem hq_sw_congr {f : Nat → Int32} {S S' : Nat → Bool} {x : Int32} (h : ∀ n, S n = true ↔ S' n = true) : hq_sw f S x = hq_sw f S' x := funext fun n => by
  unfold hq_sw
  rw [Bool.eq_iff_iff.mpr (h n)]
/-- retired by t and not seen -/
def hq_S (H : Nat) (sp fa ow : Nat → Int32) (t n : Nat) : Bool := hq_rb H fa ow t n && !hq_se sp t (nI n)
theorem hq_S_iff {H : Nat} {sp fa ow : Nat → Int32} {t n : Nat} : hq_S H sp fa ow t n = true ↔ hq_rb H fa ow t n = true ∧ ¬ hq_se sp t (nI n) = true := by
  unfold hq_S
  rw [Bool.and_eq_true, Bool.not_eq_true', Bool.not_eq_true]
section
variable {cel lim thr tm yH yT ln cnt : Int32} {ops ph a b c m s0 s1 sp lb fa ow : Nat → Int32} {t o : Nat} {x y r : Int32}
theorem hy_scan_14 {post : Int32 → SY → Prop} {j : Nat} (ht : t < 4) (hj : j < 8) (hs : ∀ i, i < 8 → (sp (8 * t + i) = -2 ↔ j ≤ i))
    (h : post 0 (cel, lim, thr, tm, yH, yT, ln, cnt, ops, upd ph t (if j = 7 then 23 else 22), a, b, c, m, s0, s1, upd sp (8 * t + j) (if j % 2 = 0 then s0 (j / 2) else s1 (j / 2)), lb, fa, ow)) :
    ∀ q, q ≤ 8 → wY_scanStep_14 post (nI t) cel lim thr tm yH yT ln cnt ops ph a b c m s0 s1 sp lb fa ow (q + 1) (nI (min 7 (max q j))) (hq_pm q) := by
  intro q
  induction q with
  | zero =>
    intro _
    rw [show min 7 (max 0 j) = j by omega]
    unfold wY_scanStep_14
    refine br_t (show (-1 : Int32) < 0 from by decide) ?_
    have e1 : nI j - nI j / 2 * 2 = nI (j % 2) := pk_rem (d := 2) (by omega) (by decide) (by decide)
    have e2 : nI j / 2 = nI (j / 2) := pk_div (d := 2) (by omega) (by decide) (by decide)
    rw [e1, e2, hq_m8, nI_add, nI_clamp (show j / 2 < 2 ^ 31 by omega)]
    have fin : ∀ z0 : Int32, post 0 (cel, lim, thr, tm, yH, yT, ln, cnt, ops, upd ph t (if j = 7 then 23 else 22), a, b, c, m, s0, s1, upd sp (8 * t + j) z0, lb, fa, ow) → wY_scanStep_85 post (nI t) (nI j) z0 (nI (8 * t + j)) cel lim thr tm yH yT ln cnt ops ph a b c m s0 s1 sp lb fa ow := by
      intro z0 hz
      unfold wY_scanStep_85
      rw [nI_clamp (show 8 * t + j < 2 ^ 31 by omega)]
      refine ⟨vp_in_nI (by omega) (by decide), nm_e ?_⟩
      by_cases e : j = 7
      · rw [if_pos e] at hz
        exact br_t (by rw [e]; rfl) (hy_go ht hz)
      · rw [if_neg e] at hz
        refine br_f (fun w => e ?_) (hy_go ht hz)
        exact (nI_eq (a := j) (b := 7) (by omega) (by decide)).mp w
    refine ⟨by decide, ?_⟩
    by_cases e : j % 2 = 0
    · rw [if_pos e] at h
      exact br_t (by rw [e]; rfl) ⟨by decide, vp_in_nI (by omega) (by decide), fin _ h⟩
    · rw [if_neg e] at h
      exact br_f (nI_ne0 (by omega) (by omega)) ⟨by decide, vp_in_nI (by omega) (by decide), fin _ h⟩
  | succ q ih =>
    intro hq
    have hn := ih (by omega)
    unfold wY_scanStep_14
    show (nI q < 0 → _) ∧ _
    refine br_f (nI_pos (by omega)) ?_
    have z : hq_pm (q + 1) = nI q := rfl
    rw [z, hq_m8, nI_add, nI_clamp (show 8 * t + q < 2 ^ 31 by omega)]
    refine ⟨vp_in_nI (by omega) (by decide), ?_⟩
    by_cases e : j ≤ q
    · rw [show min 7 (max q j) = q by omega] at hn
      exact br_t ((hs q (by omega)).mpr e) (nm_r (hq_pm_m1 q) hn)
    · rw [show min 7 (max q j) = min 7 (max (q + 1) j) by omega] at hn
      exact br_f (fun w => e ((hs q (by omega)).mp w)) (nm_r (hq_pm_m1 q) hn)
theorem hy_scanRead {post : Int32 → SY → Prop} {j : Nat} (ht : t < 4) (hj : j < 8) (hs : ∀ i, i < 8 → (sp (8 * t + i) = -2 ↔ j ≤ i))
    (h : post 0 (cel, lim, thr, tm, yH, yT, ln, cnt, ops, upd ph t (if j = 7 then 23 else 22), a, b, c, m, s0, s1, upd sp (8 * t + j) (if j % 2 = 0 then s0 (j / 2) else s1 (j / 2)), lb, fa, ow)) : wpY_scanStep post (cel, lim, thr, tm, yH, yT, ln, cnt, ops, ph, a, b, c, m, s0, s1, sp, lb, fa, ow) (nI t) (nI o) 22 := by
  unfold wpY_scanStep
  have := hy_scan_14 ht hj hs h 8 (by omega)
  rw [show min 7 (max 8 j) = 7 by omega] at this
  exact br_t rfl ⟨9, this⟩
theorem hy_sweep {post : Int32 → SY → Prop} {H L : Nat} (ht : t < 4) (ho : o < 64) (hL : L ≤ 64) (hHL : H ≤ L)
    (h1 : hq_f ops o 0 = 1 → post 0 (cel, lim, thr, tm, nI H, yT, nI L, cnt, ops, upd ph t 2, a, b, c, m, s0, s1, hq_clr sp t, lb, hq_sw fa (hq_sb (hq_S H sp fa ow t) 65) 4, hq_sw ow (hq_sb (hq_S H sp fa ow t) 65) (-1)))
    (h3 : hq_f ops o 0 = 3 → wpY_finish post (cel, lim, thr, tm, nI H, yT, nI L, cnt, upd ops (7 * o + 2) (nI (hq_cn (hq_S H sp fa ow t) 65)), ph, a, b, c, m, s0, s1, hq_clr sp t, lb, hq_sw fa (hq_sb (hq_S H sp fa ow t) 65) 4, hq_sw ow (hq_sb (hq_S H sp fa ow t) 65) (-1)) (nI t) (nI o) 1)
    (h2 : hq_f ops o 0 ≠ 1 → hq_f ops o 0 ≠ 3 → wpY_finish post (cel, lim, thr, tm, nI H, yT, nI L, cnt, ops, ph, a, b, c, m, s0, s1, hq_clr sp t, lb, hq_sw fa (hq_sb (hq_S H sp fa ow t) 65) 4, hq_sw ow (hq_sb (hq_S H sp fa ow t) 65) (-1)) (nI t) (nI o) 1) :
    ∀ (d j : Nat), j + d = 65 → wY_scanStep_112 post (nI t) (nI o) (d + 1) (nI (hq_cn (hq_S H sp fa ow t) j)) (nI j) cel lim thr tm (nI H) yT (nI L) cnt ops ph a b c m s0 s1 sp lb (hq_sw fa (hq_sb (hq_S H sp fa ow t) j) 4) (hq_sw ow (hq_sb (hq_S H sp fa ow t) j) (-1)) := by
  intro d
  induction d with
  | zero =>
    intro j hj
    rw [show j = 65 by omega]
    unfold wY_scanStep_112
    refine br_t (show (65 : Int32) ≤ nI 65 from by decide) (hy_unread ht ?_)
    have hi : vp_in (nI (7 * o + 0)) 448 := vp_in_nI (by omega) (by decide)
    dsimp only
    rw [hq_m7, hq_a0, hq_a2, nI_clamp (show 7 * o + 0 < 2 ^ 31 by omega), nI_clamp (show 7 * o + 2 < 2 ^ 31 by omega)]
    refine ⟨hi, ?_⟩
    by_cases e1 : hq_f ops o 0 = 1
    · exact br_t e1 (hy_go ht (h1 e1))
    · refine br_f e1 ⟨hi, ?_⟩
      by_cases e3 : hq_f ops o 0 = 3
      · exact br_t e3 ⟨vp_in_nI (by omega) (by decide), nm_e (h3 e3)⟩
      · exact br_f e3 (h2 e1 e3)
  | succ d ih =>
    intro j hj
    have hn := ih (j + 1) (by omega)
    have hself : ¬ hq_sb (hq_S H sp fa ow t) j j = true := by rw [hq_sb_iff]; omega
    unfold wY_scanStep_112
    refine br_f (nI_ge (b := 65) (by omega) (by decide)) ?_
    refine hy_nodeState (by omega) hL (by omega) ?_
    rw [nI_clamp (show j < 2 ^ 31 by omega), hq_sw_f hself]
    have ens : hq_ns H L (hq_sw fa (hq_sb (hq_S H sp fa ow t) j) 4) j = hq_ns H L fa j := by
      unfold hq_ns
      rw [hq_sw_f hself]
    rw [ens]
    rw [hq_cn_succ _ j] at hn
    by_cases e : hq_ns H L fa j = 3
    · have e2 := (hq_ns_3 hHL).mp e
      refine br_t e ⟨vp_in_nI (by omega) (by decide), ?_⟩
      by_cases e3 : ow j = nI t
      · refine br_t e3 (hy_seen ht ?_)
        by_cases e4 : hq_se sp t (nI j) = true
        · have hS : ¬ hq_S H sp fa ow t j = true := by rw [hq_S_iff]; exact fun z => z.2 e4
          rw [if_neg hS, ← hq_sw_n hS, ← hq_sw_n hS] at hn
          rw [if_pos e4]
          exact br_f (by decide) (nm_r (nI_1 _) hn)
        · have hS : hq_S H sp fa ow t j = true := by rw [hq_S_iff]; exact ⟨hq_rb_iff.mpr ⟨e2.1, e2.2, e3⟩, e4⟩
          rw [if_pos hS, ← hq_sw_s hS, ← hq_sw_s hS] at hn
          rw [if_neg e4]
          exact br_t rfl (hy_setFate (by omega) (nm_r (nI_1 _) (nm_r (nI_1 _) hn)))
      · have hS : ¬ hq_S H sp fa ow t j = true := by rw [hq_S_iff]; exact fun z => e3 (hq_rb_iff.mp z.1).2.2
        rw [if_neg hS, ← hq_sw_n hS, ← hq_sw_n hS] at hn
        exact br_f e3 (nm_r (nI_1 _) hn)
    · have hS : ¬ hq_S H sp fa ow t j = true := by rw [hq_S_iff]; exact fun z => e ((hq_ns_3 hHL).mpr ⟨(hq_rb_iff.mp z.1).1, (hq_rb_iff.mp z.1).2.1⟩)
      rw [if_neg hS, ← hq_sw_n hS, ← hq_sw_n hS] at hn
      exact br_f e (nm_r (nI_1 _) hn)
end
end
section
/-! the component's sweep -/
/-- numbers of a list that t has not seen -/
def hq_sl (l : List Nat) (sp : Nat → Int32) (t n : Nat) : Bool := decide (n ∈ l) && !hq_se sp t (nI n)
theorem hq_sl_iff {l : List Nat} {sp : Nat → Int32} {t n : Nat} : hq_sl l sp t n = true ↔ n ∈ l ∧ ¬ hq_se sp t (nI n) = true := by
  unfold hq_sl
  rw [Bool.and_eq_true, Bool.not_eq_true', Bool.not_eq_true, decide_eq_true_iff]
section
variable {k : Nat → Nat} {ls : Nat → List Nat} {ll : List Nat} {H T L tm cnt fc lim thr cel : Nat} {cN cX cV cS cO fs hz ph oo rA rB rC m vr pc sR sC rt rn ops lo a b c s0 s1 sp lb fa ow : Nat → Int32} {sz : Nat → Int32} {t : Nat}
theorem hq_se_rf (hL : L ≤ 64) (gRe : hq_re k L hz rA rB rC sR a b c s0 s1 sp) (ht : t < 4) {n : Nat} (hn : n ≤ L) : hq_se sR t (hq_rf k (nI n)) = hq_se sp t (nI n) := by
  obtain ⟨e1, e2, e3, e4, e5, e6, e7, e8⟩ := gRe
  rw [Bool.eq_iff_iff, hq_se_iff, hq_se_iff]
  have key : ∀ j, j < 8 → (sR (8 * t + j) = hq_rf k (nI n) ↔ sp (8 * t + j) = nI n) := by
    intro j hj
    rw [e7 (8 * t + j) (by omega)]
    exact hq_rf_inj hL e1 (e8 (8 * t + j) (by omega)).2 (by rw [nI_toInt (by omega)]; omega)
  constructor
  · exact fun ⟨j, h1, h2⟩ => ⟨j, h1, (key j h1).mp h2⟩
  · exact fun ⟨j, h1, h2⟩ => ⟨j, h1, (key j h1).mpr h2⟩
theorem hw_sweep (ht : t < 4) (h23 : (ph t).toInt = 23) : ∀ (rest kept : List Nat) (i fc : Nat) (cN cX cS cO fs rt fa ow : Nat → Int32),
    hq_RQ k ll H T L tm cnt fc lim thr cel cN cX cV cS cO fs hz ph oo rA rB rC m vr pc sR sC ops lo a b c s0 s1 sp lb fa ow → rest.Nodup → (∀ n, n ∈ rest → hq_rb H fa ow t n = true) → hq_lh rt (rest.map k) (16 * t + i) → hq_lh rt (kept.map k) (16 * t) → kept.length ≤ i → i + rest.length ≤ 15 →
    ∃ (fc' : Nat) (cN' cX' cS' cO' fs' rt' : Nat → Int32),
      hq_RQ k ll H T L tm cnt fc' lim thr cel cN' cX' cV cS' cO' fs' hz ph oo rA rB rC m vr pc sR sC ops lo a b c s0 s1 sp lb (hq_sw fa (hq_sl rest sp t) 4) (hq_sw ow (hq_sl rest sp t) (-1)) ∧
      hq_lh rt' ((kept ++ rest.filter (fun n => hq_se sp t (nI n))).map k) (16 * t) ∧ (∀ p, p < 16 * t ∨ 16 * t + 16 ≤ p → rt' p = rt p) ∧
      ∀ (post : Int32 → SX → Prop) (N : Nat), rest.length < N →
        post (nI (i + rest.length) - nI (kept ++ rest.filter (fun n => hq_se sp t (nI n))).length) (nI fc', hq_rf k (nI H), hq_rf k (nI T), nI L, nI tm, nI cnt, nI (List.length ll), nI lim, nI thr, cN', cX', cV, cS', cO', fs', hz, ph, oo, rA, rB, rC, m, vr, pc, sR, sC, rt', upd rn t (nI (kept ++ rest.filter (fun n => hq_se sp t (nI n))).length), ops, lo, sz) →
        wX_sweepRetired_18 post (nI t) (nI (16 * t)) (nI (i + rest.length)) N (nI kept.length) (nI i) (nI fc) (hq_rf k (nI H)) (hq_rf k (nI T)) (nI L) (nI tm) (nI cnt) (nI (List.length ll)) (nI lim) (nI thr) cN cX cV cS cO fs hz ph oo rA rB rC m vr pc sR sC rt rn ops lo sz := by
  intro rest
  induction rest with
  | nil =>
    intro kept i fc cN cX cS cO fs rt fa ow Q hnd hrb hl1 hl2 hk hi
    have hz : ∀ (f : Nat → Int32) x, hq_sw f (hq_sl [] sp t) x = f := fun f x => funext fun n => hq_sw_f (by rw [hq_sl_iff]; simp)
    refine ⟨fc, cN, cX, cS, cO, fs, rt, ?_, ?_, fun _ _ => rfl, fun post N hN h => ?_⟩
    · rw [hz, hz]; exact Q
    · rw [List.filter_nil, List.append_nil]; exact hl2
    · obtain ⟨N', rfl⟩ : ∃ N', N = N' + 1 := ⟨N - 1, by omega⟩
      rw [List.filter_nil, List.append_nil] at h
      unfold wX_sweepRetired_18
      rw [hx_c4 ht]
      exact br_t (nI_le (by simp) (by simp at hi ⊢; omega)) ⟨hx_v4 ht, nm_e h⟩
  | cons n rest ih =>
    intro kept i fc cN cX cS cO fs rt fa ow Q hnd hrb hl1 hl2 hk hi
    have hrbn := hq_rb_iff.mp (hrb n (by simp))
    rw [List.nodup_cons] at hnd
    rw [List.length_cons] at hi
    obtain ⟨gSc, gRe, gHp⟩ : hq_sc H T L tm cnt lim thr cel ∧ hq_re k L hz rA rB rC sR a b c s0 s1 sp ∧ hq_hp k H L cN cX cV cS cO ops lb fa ow := ⟨Q.1, Q.2.2.1, Q.2.2.2.1⟩
    have gSc' := gSc
    unfold hq_sc at gSc'
    have hk16 : k n < 16 := gRe.1 n (by omega)
    have hcN : cN (k n) = nI n := (gHp.1 n (hq_hl_iff.mpr ⟨by omega, Or.inr (Or.inr hrbn.2.1)⟩)).1
    have hrt : rt (16 * t + i) = nI (k n) := hl1 0 (k n) (by simp)
    have hl1' : hq_lh rt (rest.map k) (16 * t + (i + 1)) := by
      intro j q hq
      have := hl1 (j + 1) q (by simp only [List.map_cons, List.getElem?_cons_succ]; exact hq)
      rw [show 16 * t + (i + 1) + j = 16 * t + i + (j + 1) by omega]
      exact this
    have hse : hq_se sR t (nI (16 * n + k n)) = hq_se sp t (nI n) := by
      rw [← hq_rf_n (k := k) (by omega)]
      exact hq_se_rf (by omega) gRe ht (by omega)
    have hlen : i + (n :: rest).length = i + 1 + rest.length := by rw [List.length_cons]; omega
    rw [hlen]
    by_cases e : hq_se sp t (nI n) = true
    · have hsl : ∀ q, hq_sl (n :: rest) sp t q = true ↔ hq_sl rest sp t q = true := by
        intro q
        rw [hq_sl_iff, hq_sl_iff, List.mem_cons]
        constructor
        · intro z
          refine ⟨z.1.resolve_left (fun w => z.2 (by rw [w]; exact e)), z.2⟩
        · exact fun z => ⟨Or.inr z.1, z.2⟩
      rw [hq_sw_congr hsl, hq_sw_congr hsl, List.filter_cons_of_pos (by exact e)]
      obtain ⟨fc', cN', cX', cS', cO', fs', rt', k1, k2, k3, k4⟩ := ih (kept ++ [n]) (i + 1) fc cN cX cS cO fs (upd rt (16 * t + kept.length) (nI (k n))) fa ow Q hnd.2 (fun q hq => hrb q (by simp [hq]))
        (hq_lh_upd hl1' (Or.inl (by omega)))
        (by
          rw [List.map_append]
          refine hq_lh_app (hq_lh_upd hl2 (Or.inr (by rw [List.length_map]; omega))) ?_
          rw [List.length_map]
          exact hq_lh_cons pk_us (hq_lh_nil _ _))
        (by rw [List.length_append, List.length_singleton]; omega) (by omega)
      rw [List.append_assoc, List.singleton_append] at k2
      refine ⟨fc', cN', cX', cS', cO', fs', rt', k1, k2, fun p hp => ?_, fun post N hN h => ?_⟩
      · rw [k3 p hp, pk_un (by omega)]
      · obtain ⟨N', rfl⟩ : ∃ N', N = N' + 1 := ⟨N - 1, by omega⟩
        rw [List.length_cons] at hN
        have hw := k4 post N' (by omega) (by rw [List.append_assoc, List.singleton_append]; exact h)
        rw [List.length_append, List.length_singleton] at hw
        unfold wX_sweepRetired_18
        refine br_f (nI_ge (by omega) (by omega)) ?_
        rw [nI_add, nI_add, nI_clamp (show 16 * t + i < 2 ^ 31 by omega), nI_clamp (show 16 * t + kept.length < 2 ^ 31 by omega)]
        refine ⟨vp_in_nI (by omega) (by decide), nm_r hrt ?_⟩
        rw [nI_clamp (show k n < 2 ^ 31 by omega), hcN, hq_mk (by omega) hk16]
        refine ⟨vp_in_nI hk16 (by decide), nm_e (hx_seen ht ?_)⟩
        rw [hse, if_pos e]
        refine br_f (by decide) ⟨vp_in_nI (by omega) (by decide), nm_e (nm_r (nI_1 _) (nm_r (nI_1 _) hw))⟩
    · have hun : ∀ j, j < 8 → sp (8 * t + j) ≠ nI n := fun j hj z => e (hq_se_iff.mpr ⟨j, hj, z⟩)
      obtain ⟨hfc, Q'⟩ := hm_recyc Q ht h23 hrbn.1 hrbn.2.1 hrbn.2.2 hun
      have hsw : ∀ (f : Nat → Int32) x, hq_sw (upd f n x) (hq_sl rest sp t) x = hq_sw f (hq_sl (n :: rest) sp t) x := by
        intro f x
        funext q
        by_cases w : q = n
        · subst w
          rw [hq_sw_t (S := hq_sl (q :: rest) sp t) (hq_sl_iff.mpr ⟨by simp, e⟩)]
          by_cases w2 : hq_sl rest sp t q = true
          · rw [hq_sw_t w2]
          · rw [hq_sw_f w2, pk_us]
        · by_cases w2 : hq_sl rest sp t q = true
          · rw [hq_sw_t w2, hq_sw_t (S := hq_sl (n :: rest) sp t)]
            rw [hq_sl_iff] at w2 ⊢
            exact ⟨by simp [w2.1], w2.2⟩
          · rw [hq_sw_f w2, hq_sw_f (S := hq_sl (n :: rest) sp t), pk_un w]
            rw [hq_sl_iff] at w2 ⊢
            intro z
            exact w2 ⟨(List.mem_cons.mp z.1).resolve_left w, z.2⟩
      rw [List.filter_cons_of_neg (by exact e)]
      obtain ⟨fc', cN', cX', cS', cO', fs', rt', k1, k2, k3, k4⟩ := ih kept (i + 1) (fc + 1) (upd cN (k n) (-1)) (upd cX (k n) (-1)) (upd cS (k n) 4) (upd cO (k n) (-1)) (upd fs fc (nI (k n))) rt (upd fa n 4) (upd ow n (-1)) Q' hnd.2
        (fun q hq => by
          have hne : q ≠ n := fun w => hnd.1 (by rw [← w]; exact hq)
          have := hq_rb_iff.mp (hrb q (by simp [hq]))
          rw [hq_rb_iff, pk_un hne, pk_un hne]
          exact this)
        hl1' hl2 (by omega) (by omega)
      rw [hsw, hsw] at k1
      refine ⟨fc', cN', cX', cS', cO', fs', rt', k1, k2, k3, fun post N hN h => ?_⟩
      obtain ⟨N', rfl⟩ : ∃ N', N = N' + 1 := ⟨N - 1, by omega⟩
      rw [List.length_cons] at hN
      have hw := k4 post N' (by omega) h
      unfold wX_sweepRetired_18
      refine br_f (nI_ge (by omega) (by omega)) ?_
      rw [nI_add, nI_add, nI_clamp (show 16 * t + i < 2 ^ 31 by omega), nI_clamp (show 16 * t + kept.length < 2 ^ 31 by omega)]
      refine ⟨vp_in_nI (by omega) (by decide), nm_r hrt ?_⟩
      rw [nI_clamp (show k n < 2 ^ 31 by omega), hcN, hq_mk (by omega) hk16]
      refine ⟨vp_in_nI hk16 (by decide), nm_e (hx_seen ht ?_)⟩
      rw [hse, if_neg e]
      exact br_t rfl (hx_recycle hk16 hfc (nm_r (nI_1 _) hw))
end
end
section
/-! outcomes of a step, and tools for its cases -/
def hq_OC (t tm cnt lim thr cel : Nat) (sz : Nat → Int32) (X : (Int32 → SX → Prop) → Prop) (Y : (Int32 → SY → Prop) → Prop) : Prop :=
  ∃ (r : Int32) (k : Nat → Nat) (ls : Nat → List Nat) (ll : List Nat) (H T L fc : Nat) (cN cX cV cS cO fs hz ph oo rA rB rC m vr pc sR sC rt rn ops lo a b c s0 s1 sp lb fa ow : Nat → Int32), hq_RR k ls ll H T L (tm + 1) cnt fc lim thr cel cN cX cV cS cO fs hz ph oo rA rB rC m vr pc sR sC rt rn ops lo a b c s0 s1 sp lb fa ow ∧ hq_sz tm cnt ops sz ∧ hq_ok ph ∧ (r = 0 → (ph t).toInt ≠ 0) ∧ (∀ post : Int32 → SX → Prop, post r (nI fc, hq_rf k (nI H), hq_rf k (nI T), nI L, nI (tm + 1), nI cnt, nI (List.length ll), nI lim, nI thr, cN, cX, cV, cS, cO, fs, hz, ph, oo, rA, rB, rC, m, vr, pc, sR, sC, rt, rn, ops, lo, sz) → X post) ∧ (∀ post : Int32 → SY → Prop, post r (nI cel, nI lim, nI thr, nI (tm + 1), nI H, nI T, nI L, nI cnt, ops, ph, a, b, c, m, s0, s1, sp, lb, fa, ow) → Y post)
theorem hq_OB_tr {t : Nat} {p p' : Int} {kd th vl rs ln : Int32} (h : hq_OB t p kd th vl rs ln) (h1 : p' ≤ 10 → p ≤ 10) (h2 : 11 ≤ p' → p' ≤ 21 → 11 ≤ p ∧ p ≤ 21) (h3 : p' ≤ 9 → p ≤ 9) (h4 : 11 ≤ p' → p' ≤ 20 → 11 ≤ p ∧ p ≤ 20) (h5 : 22 ≤ p' → p' ≤ 23 → p ≤ 9 ∨ (11 ≤ p ∧ p ≤ 20) ∨ (22 ≤ p ∧ p ≤ 23)) : hq_OB t p' kd th vl rs ln := by
  obtain ⟨q1, q2, q3, q4, q5, q6, q7, q8⟩ := h
  refine ⟨q1, q2, q3, fun z => q4 (h1 z), fun z1 z2 => q5 (h2 z1 z2).1 (h2 z1 z2).2, fun z => q6 (h3 z), fun z1 z2 => q7 (h4 z1 z2).1 (h4 z1 z2).2, fun z1 z2 z3 => ?_⟩
  rcases h5 z1 z2 with w | w | w
  · exact q6 w
  · exact (q7 w.1 w.2).1
  · exact q8 w.1 w.2 z3
section
variable {k : Nat → Nat} {ls : Nat → List Nat} {ll : List Nat} {H T L tm cnt fc lim thr cel : Nat} {cN cX cV cS cO fs hz ph oo rA rB rC m vr pc sR sC rt rn ops lo a b c s0 s1 sp lb fa ow : Nat → Int32} {sz : Nat → Int32} {t o : Nat} {x : Int32}
theorem hq_OC_mk {X : (Int32 → SX → Prop) → Prop} {Y : (Int32 → SY → Prop) → Prop} (r : Int32) (R : hq_RR k ls ll H T L (tm + 1) cnt fc lim thr cel cN cX cV cS cO fs hz ph oo rA rB rC m vr pc sR sC rt rn ops lo a b c s0 s1 sp lb fa ow) (hs : hq_sz tm cnt ops sz) (hok : hq_ok ph) (hr : r = 0 → (ph t).toInt ≠ 0)
    (hX : ∀ post : Int32 → SX → Prop, post r (nI fc, hq_rf k (nI H), hq_rf k (nI T), nI L, nI (tm + 1), nI cnt, nI (List.length ll), nI lim, nI thr, cN, cX, cV, cS, cO, fs, hz, ph, oo, rA, rB, rC, m, vr, pc, sR, sC, rt, rn, ops, lo, sz) → X post) (hY : ∀ post : Int32 → SY → Prop, post r (nI cel, nI lim, nI thr, nI (tm + 1), nI H, nI T, nI L, nI cnt, ops, ph, a, b, c, m, s0, s1, sp, lb, fa, ow) → Y post) : hq_OC t tm cnt lim thr cel sz X Y :=
  ⟨r, k, ls, ll, H, T, L, fc, cN, cX, cV, cS, cO, fs, hz, ph, oo, rA, rB, rC, m, vr, pc, sR, sC, rt, rn, ops, lo, a, b, c, s0, s1, sp, lb, fa, ow, R, hs, hok, hr, hX, hY⟩
theorem hq_ok_u (hok : hq_ok ph) (h : x.toInt ≤ 23) : hq_ok (upd ph t x) := by
  intro s hs
  by_cases e : s = t
  · rw [e, pk_us]; exact h
  · rw [pk_un e]; exact hok s hs
theorem hq_nz_u (h : x.toInt ≠ 0) {r : Int32} : r = 0 → (upd ph t x t).toInt ≠ 0 := fun _ => by rw [pk_us]; exact h
theorem hm_lin (R : hq_RR k ls ll H T L tm cnt fc lim thr cel cN cX cV cS cO fs hz ph oo rA rB rC m vr pc sR sC rt rn ops lo a b c s0 s1 sp lb fa ow) {n s : Nat} (h1 : H ≤ n) (h2 : n ≤ L) : hq_PR H L sC sp fa ow s n :=
  ⟨hq_hl_iff.mpr ⟨h2, Or.inl h1⟩, fun z => by omega⟩
/-- an ordinary change of phase -/
theorem hm_go {P P' : Int} (R : hq_RR k ls ll H T L tm cnt fc lim thr cel cN cX cV cS cO fs hz ph oo rA rB rC m vr pc sR sC rt rn ops lo a b c s0 s1 sp lb fa ow) (ht : t < 4) (e : (ph t).toInt = P) (e' : x.toInt = P')
    (hc : P ≠ 0 ∧ P' ≠ 0 ∧ ((3 ≤ P' ∧ P' ≤ 9) ↔ (3 ≤ P ∧ P ≤ 9)) ∧ P ≠ 22 ∧ P ≠ 23 ∧ P' ≠ 23 ∧ P' ≠ 21 ∧ P' ≠ 20 ∧
      (P' ≤ 10 → P ≤ 10) ∧ (11 ≤ P' → P' ≤ 21 → 11 ≤ P ∧ P ≤ 21) ∧ (P' ≤ 9 → P ≤ 9) ∧ (11 ≤ P' → P' ≤ 20 → 11 ≤ P ∧ P ≤ 20) ∧ (22 ≤ P' → P' ≤ 23 → P ≤ 9 ∨ (11 ≤ P ∧ P ≤ 20)))
    (h : hq_LO L H T P' (a t).toInt (b t).toInt (c t).toInt (m t).toInt (s0 t).toInt (s1 t).toInt)
    (hA : ((6 ≤ P' ∧ P' ≤ 9) ∨ (14 ≤ P' ∧ P' ≤ 15)) → ∀ n, n ≤ L → a t = nI n → hq_PR H L sC sp fa ow (2 * t) n)
    (hC : P' = 19 → ∀ n, n ≤ L → c t = nI n → hq_PR H L sC sp fa ow (2 * t + 1) n) : hq_RR k ls ll H T L tm cnt fc lim thr cel cN cX cV cS cO fs hz (upd ph t x) oo rA rB rC m vr pc sR sC rt rn ops lo a b c s0 s1 sp lb fa ow := by
  subst e e'
  obtain ⟨c1, c2, c3, c4, c5, c6, c7, c8, c9, c10, c11, c12, c13⟩ := hc
  refine hm_ph R ht c1 c2 h c3 hA hC ?_ (fun q hq eq => ?_) c7 (fun z => absurd z c8)
  · have hsn : hq_SN (ph t).toInt (sC t).toInt := (R.2.2.2.2.2.2.2.2.2.2.1 t ht).1
    unfold hq_SN at hsn ⊢
    omega
  · have h64 : q < 64 := by
      have := R.1
      unfold hq_sc at this
      omega
    exact hq_OB_tr (hm_o R ht c1 h64 eq).2 c9 c10 c11 c12 (fun z1 z2 => (c13 z1 z2).imp id (fun w => Or.inl w))
/-- the locals forgotten at phase 24, then the operation ends -/
theorem hm_forget (R : hq_RR k ls ll H T L tm cnt fc lim thr cel cN cX cV cS cO fs hz ph oo rA rB rC m vr pc sR sC rt rn ops lo a b c s0 s1 sp lb fa ow) (ht : t < 4) (h24 : (ph t).toInt = 24) :
    hq_RR k ls ll H T L tm cnt fc lim thr cel cN cX cV cS cO fs (upd (upd hz (2 * t) (-1)) (2 * t + 1) (-1)) ph oo (upd rA t (-1)) (upd rB t (-1)) (upd rC t (-1)) (upd m t 0) vr pc sR sC rt rn ops lo (upd a t (-1)) (upd b t (-1)) (upd c t (-1)) (upd s0 t (-1)) (upd s1 t (-1)) sp lb fa ow := by
  have hL : (0 : Int) ≤ L := by omega
  have hlo := hq_LO_rg (R.2.1 t ht)
  have m1 := hq_im1
  have R1 := hm_s0 (x := -1) R ht (hq_LO_0 (by omega) (by rw [hq_im1]; omega))
  have R2 := hm_s1 (x := -1) R1 ht (hq_LO_0 (by omega) (by rw [pk_us, hq_im1]; omega))
  have R3 := hm_a (x := -1) R2 ht (hq_LO_0 (by omega) (by rw [pk_us, pk_us, hq_im1]; omega)) (by omega) (by omega)
  have R4 := hm_b (x := -1) R3 ht (hq_LO_0 (by omega) (by rw [pk_us, pk_us, pk_us, hq_im1]; omega))
  have R5 := hm_c (x := -1) R4 ht (hq_LO_0 (by omega) (by rw [pk_us, pk_us, pk_us, pk_us, hq_im1]; omega)) (by omega) (by omega)
  have R6 := hm_m (x := 0) R5 ht (hq_LO_0 (by omega) (by rw [pk_us, pk_us, pk_us, pk_us, pk_us, hq_im1]; omega)) (by rw [hq_i0]; omega) (fun z => absurd rfl z) (fun z => absurd rfl z)
  rw [hq_rf_m1] at R6
  exact R6
/-- the end of an operation whose thread stands at phase 24 -/
theorem hm_end {r w : Int32} (R : hq_RR k ls ll H T L tm cnt fc lim thr cel cN cX cV cS cO fs hz ph oo rA rB rC m vr pc sR sC rt rn ops lo a b c s0 s1 sp lb fa ow) (ht : t < 4) (h24 : (ph t).toInt = 24) (ho : o < 64) (hoo : oo t = nI o) (hr : r ≠ 0) :
    hq_RR k ls ll H T L tm cnt fc lim thr cel cN cX cV cS cO fs (upd (upd hz (2 * t) (-1)) (2 * t + 1) (-1)) (upd ph t 0) (upd oo t (-1)) (upd rA t (-1)) (upd rB t (-1)) (upd rC t (-1)) (upd m t 0) vr pc (hq_clr sR t) (upd sC t 0) rt rn (upd (upd ops (7 * o + 3) r) (7 * o + 6) w) lo (upd a t (-1)) (upd b t (-1)) (upd c t (-1)) (upd s0 t (-1)) (upd s1 t (-1)) (hq_clr sp t) lb fa ow := by
  have hsn : hq_SN (ph t).toInt (sC t).toInt := (R.2.2.2.2.2.2.2.2.2.2.1 t ht).1
  obtain ⟨i1, i2, i3⟩ := hm_clr_id R ht (by unfold hq_SN at hsn; omega)
  rw [i1, i2, i3]
  exact hm_fin (hm_forget R ht h24) ht h24 ho hoo hr
/-- sizes: fields 3 and 6 of an operation don't matter -/
theorem hz_fin {w y : Int32} (hs : hq_sz tm cnt ops sz) : hq_sz tm cnt (upd (upd ops (7 * o + 3) w) (7 * o + 6) y) sz := by
  have f1 : ∀ i g, g < 7 → g ≠ 3 → g ≠ 6 → hq_f (upd (upd ops (7 * o + 3) w) (7 * o + 6) y) i g = hq_f ops i g := fun i g h0 h1 h2 => by
    rw [hq_fn (by omega) h0 (Or.inr h2), hq_fn (by omega) h0 (Or.inr h1)]
  intro q hq
  rw [hs q hq]
  congr 2
  · exact hq_cn_congr fun i _ => by unfold hq_we; rw [f1 i 0 (by omega) (by omega) (by omega), f1 i 5 (by omega) (by omega) (by omega)]
  · exact hq_cn_congr fun i _ => by unfold hq_wd; rw [f1 i 0 (by omega) (by omega) (by omega), f1 i 2 (by omega) (by omega) (by omega), f1 i 5 (by omega) (by omega) (by omega)]
/-- sizes: a change of operation o that counts at no time up to tm -/
theorem hz_op {ops' : Nat → Int32} (hs : hq_sz tm cnt ops sz) (h : ∀ i, i ≠ o → hq_f ops' i 0 = hq_f ops i 0 ∧ hq_f ops' i 2 = hq_f ops i 2 ∧ hq_f ops' i 5 = hq_f ops i 5)
    (hn : ∀ q, q ≤ tm → hq_we ops q o = false ∧ hq_wd ops q o = false) (hn' : ∀ q, q ≤ tm → hq_we ops' q o = false ∧ hq_wd ops' q o = false) : hq_sz tm cnt ops' sz := by
  intro q hq
  rw [hs q hq]
  congr 2
  · refine hq_cn_congr fun i _ => ?_
    by_cases e : i = o
    · rw [e, (hn q hq).1, (hn' q hq).1]
    · obtain ⟨h1, h2, h3⟩ := h i e
      unfold hq_we; rw [h1, h3]
  · refine hq_cn_congr fun i _ => ?_
    by_cases e : i = o
    · rw [e, (hn q hq).2, (hn' q hq).2]
    · obtain ⟨h1, h2, h3⟩ := h i e
      unfold hq_wd; rw [h1, h2, h3]
end
end
section
/-! hq_LO at each phase: printed by lo.py -/
theorem hq_LO_4 {L H T : Nat} {a b c m s0 s1 : Int} (h : (-1 ≤ a ∧ a ≤ L) ∧ (-1 ≤ b ∧ b ≤ L) ∧ (-1 ≤ c ∧ c ≤ L) ∧ (-1 ≤ s0 ∧ s0 ≤ L) ∧ (-1 ≤ s1 ∧ s1 ≤ L)) (f0 : 0 ≤ a ∧ a ≤ T) : hq_LO L H T 4 a b c m s0 s1 :=
  ⟨by decide, h.1, h.2.1, h.2.2.1, h.2.2.2.1, h.2.2.2.2, fun _ _ => f0, fun z _ => absurd z (by decide), fun z _ => absurd z (by decide), fun z _ => absurd z (by decide), fun z _ => absurd z (by decide), fun z => absurd z (by decide), fun z => absurd z (by decide), fun z _ => absurd z (by decide), fun z _ => absurd z (by decide), fun z _ => absurd z (by decide), fun z _ => absurd z (by decide), fun z => absurd z (by decide), fun z _ => absurd z (by decide)⟩
theorem hq_LO_g4 {L H T : Nat} {a b c m s0 s1 : Int} (h : hq_LO L H T 4 a b c m s0 s1) : (0 ≤ a ∧ a ≤ T) :=
  h.2.2.2.2.2.2.1 (by decide) (by decide)
theorem hq_LO_5 {L H T : Nat} {a b c m s0 s1 : Int} (h : (-1 ≤ a ∧ a ≤ L) ∧ (-1 ≤ b ∧ b ≤ L) ∧ (-1 ≤ c ∧ c ≤ L) ∧ (-1 ≤ s0 ∧ s0 ≤ L) ∧ (-1 ≤ s1 ∧ s1 ≤ L)) (f0 : 0 ≤ a ∧ a ≤ T) (f2 : s0 = a) : hq_LO L H T 5 a b c m s0 s1 :=
  ⟨by decide, h.1, h.2.1, h.2.2.1, h.2.2.2.1, h.2.2.2.2, fun _ _ => f0, fun z _ => absurd z (by decide), fun _ _ => f2, fun z _ => absurd z (by decide), fun z _ => absurd z (by decide), fun z => absurd z (by decide), fun z => absurd z (by decide), fun z _ => absurd z (by decide), fun z _ => absurd z (by decide), fun z _ => absurd z (by decide), fun z _ => absurd z (by decide), fun z => absurd z (by decide), fun z _ => absurd z (by decide)⟩
theorem hq_LO_g5 {L H T : Nat} {a b c m s0 s1 : Int} (h : hq_LO L H T 5 a b c m s0 s1) : (0 ≤ a ∧ a ≤ T) ∧ (s0 = a) :=
  ⟨h.2.2.2.2.2.2.1 (by decide) (by decide), h.2.2.2.2.2.2.2.2.1 (by decide) (by decide)⟩
theorem hq_LO_6 {L H T : Nat} {a b c m s0 s1 : Int} (h : (-1 ≤ a ∧ a ≤ L) ∧ (-1 ≤ b ∧ b ≤ L) ∧ (-1 ≤ c ∧ c ≤ L) ∧ (-1 ≤ s0 ∧ s0 ≤ L) ∧ (-1 ≤ s1 ∧ s1 ≤ L)) (f0 : 0 ≤ a ∧ a ≤ T) (f2 : s0 = a) : hq_LO L H T 6 a b c m s0 s1 :=
  ⟨by decide, h.1, h.2.1, h.2.2.1, h.2.2.2.1, h.2.2.2.2, fun _ _ => f0, fun z _ => absurd z (by decide), fun _ _ => f2, fun z _ => absurd z (by decide), fun z _ => absurd z (by decide), fun z => absurd z (by decide), fun z => absurd z (by decide), fun z _ => absurd z (by decide), fun z _ => absurd z (by decide), fun z _ => absurd z (by decide), fun z _ => absurd z (by decide), fun z => absurd z (by decide), fun z _ => absurd z (by decide)⟩
theorem hq_LO_g6 {L H T : Nat} {a b c m s0 s1 : Int} (h : hq_LO L H T 6 a b c m s0 s1) : (0 ≤ a ∧ a ≤ T) ∧ (s0 = a) :=
  ⟨h.2.2.2.2.2.2.1 (by decide) (by decide), h.2.2.2.2.2.2.2.2.1 (by decide) (by decide)⟩
theorem hq_LO_7 {L H T : Nat} {a b c m s0 s1 : Int} (h : (-1 ≤ a ∧ a ≤ L) ∧ (-1 ≤ b ∧ b ≤ L) ∧ (-1 ≤ c ∧ c ≤ L) ∧ (-1 ≤ s0 ∧ s0 ≤ L) ∧ (-1 ≤ s1 ∧ s1 ≤ L)) (f0 : 0 ≤ a ∧ a ≤ T) (f2 : s0 = a) (f4 : c = -1 ∨ c = a + 1) : hq_LO L H T 7 a b c m s0 s1 :=
  ⟨by decide, h.1, h.2.1, h.2.2.1, h.2.2.2.1, h.2.2.2.2, fun _ _ => f0, fun z _ => absurd z (by decide), fun _ _ => f2, fun z _ => absurd z (by decide), fun _ _ => f4, fun z => absurd z (by decide), fun z => absurd z (by decide), fun z _ => absurd z (by decide), fun z _ => absurd z (by decide), fun z _ => absurd z (by decide), fun z _ => absurd z (by decide), fun z => absurd z (by decide), fun z _ => absurd z (by decide)⟩
theorem hq_LO_g7 {L H T : Nat} {a b c m s0 s1 : Int} (h : hq_LO L H T 7 a b c m s0 s1) : (0 ≤ a ∧ a ≤ T) ∧ (s0 = a) ∧ (c = -1 ∨ c = a + 1) :=
  ⟨h.2.2.2.2.2.2.1 (by decide) (by decide), h.2.2.2.2.2.2.2.2.1 (by decide) (by decide), h.2.2.2.2.2.2.2.2.2.2.1 (by decide) (by decide)⟩
theorem hq_LO_8 {L H T : Nat} {a b c m s0 s1 : Int} (h : (-1 ≤ a ∧ a ≤ L) ∧ (-1 ≤ b ∧ b ≤ L) ∧ (-1 ≤ c ∧ c ≤ L) ∧ (-1 ≤ s0 ∧ s0 ≤ L) ∧ (-1 ≤ s1 ∧ s1 ≤ L)) (f0 : 0 ≤ a ∧ a ≤ T) (f2 : s0 = a) (f4 : c = -1 ∨ c = a + 1) (f5 : c = a + 1) : hq_LO L H T 8 a b c m s0 s1 :=
  ⟨by decide, h.1, h.2.1, h.2.2.1, h.2.2.2.1, h.2.2.2.2, fun _ _ => f0, fun z _ => absurd z (by decide), fun _ _ => f2, fun z _ => absurd z (by decide), fun _ _ => f4, fun _ => f5, fun z => absurd z (by decide), fun z _ => absurd z (by decide), fun z _ => absurd z (by decide), fun z _ => absurd z (by decide), fun z _ => absurd z (by decide), fun z => absurd z (by decide), fun z _ => absurd z (by decide)⟩
theorem hq_LO_g8 {L H T : Nat} {a b c m s0 s1 : Int} (h : hq_LO L H T 8 a b c m s0 s1) : (0 ≤ a ∧ a ≤ T) ∧ (s0 = a) ∧ (c = -1 ∨ c = a + 1) ∧ (c = a + 1) :=
  ⟨h.2.2.2.2.2.2.1 (by decide) (by decide), h.2.2.2.2.2.2.2.2.1 (by decide) (by decide), h.2.2.2.2.2.2.2.2.2.2.1 (by decide) (by decide), h.2.2.2.2.2.2.2.2.2.2.2.1 rfl⟩
theorem hq_LO_9 {L H T : Nat} {a b c m s0 s1 : Int} (h : (-1 ≤ a ∧ a ≤ L) ∧ (-1 ≤ b ∧ b ≤ L) ∧ (-1 ≤ c ∧ c ≤ L) ∧ (-1 ≤ s0 ∧ s0 ≤ L) ∧ (-1 ≤ s1 ∧ s1 ≤ L)) (f0 : 0 ≤ a ∧ a ≤ T) (f2 : s0 = a) (f4 : c = -1 ∨ c = a + 1) : hq_LO L H T 9 a b c m s0 s1 :=
  ⟨by decide, h.1, h.2.1, h.2.2.1, h.2.2.2.1, h.2.2.2.2, fun _ _ => f0, fun z _ => absurd z (by decide), fun _ _ => f2, fun z _ => absurd z (by decide), fun _ _ => f4, fun z => absurd z (by decide), fun z => absurd z (by decide), fun z _ => absurd z (by decide), fun z _ => absurd z (by decide), fun z _ => absurd z (by decide), fun z _ => absurd z (by decide), fun z => absurd z (by decide), fun z _ => absurd z (by decide)⟩
theorem hq_LO_g9 {L H T : Nat} {a b c m s0 s1 : Int} (h : hq_LO L H T 9 a b c m s0 s1) : (0 ≤ a ∧ a ≤ T) ∧ (s0 = a) ∧ (c = -1 ∨ c = a + 1) :=
  ⟨h.2.2.2.2.2.2.1 (by decide) (by decide), h.2.2.2.2.2.2.2.2.1 (by decide) (by decide), h.2.2.2.2.2.2.2.2.2.2.1 (by decide) (by decide)⟩
theorem hq_LO_10 {L H T : Nat} {a b c m s0 s1 : Int} (h : (-1 ≤ a ∧ a ≤ L) ∧ (-1 ≤ b ∧ b ≤ L) ∧ (-1 ≤ c ∧ c ≤ L) ∧ (-1 ≤ s0 ∧ s0 ≤ L) ∧ (-1 ≤ s1 ∧ s1 ≤ L)) (f0 : 0 ≤ a ∧ a ≤ T) (f2 : s0 = a) (f6 : a + 1 ≤ L) : hq_LO L H T 10 a b c m s0 s1 :=
  ⟨by decide, h.1, h.2.1, h.2.2.1, h.2.2.2.1, h.2.2.2.2, fun _ _ => f0, fun z _ => absurd z (by decide), fun _ _ => f2, fun z _ => absurd z (by decide), fun _ z => absurd z (by decide), fun z => absurd z (by decide), fun _ => f6, fun z _ => absurd z (by decide), fun z _ => absurd z (by decide), fun z _ => absurd z (by decide), fun z _ => absurd z (by decide), fun z => absurd z (by decide), fun z _ => absurd z (by decide)⟩
theorem hq_LO_g10 {L H T : Nat} {a b c m s0 s1 : Int} (h : hq_LO L H T 10 a b c m s0 s1) : (0 ≤ a ∧ a ≤ T) ∧ (s0 = a) ∧ (a + 1 ≤ L) :=
  ⟨h.2.2.2.2.2.2.1 (by decide) (by decide), h.2.2.2.2.2.2.2.2.1 (by decide) (by decide), h.2.2.2.2.2.2.2.2.2.2.2.2.1 rfl⟩
theorem hq_LO_12 {L H T : Nat} {a b c m s0 s1 : Int} (h : (-1 ≤ a ∧ a ≤ L) ∧ (-1 ≤ b ∧ b ≤ L) ∧ (-1 ≤ c ∧ c ≤ L) ∧ (-1 ≤ s0 ∧ s0 ≤ L) ∧ (-1 ≤ s1 ∧ s1 ≤ L)) (f1 : 0 ≤ a ∧ a ≤ H) : hq_LO L H T 12 a b c m s0 s1 :=
  ⟨by decide, h.1, h.2.1, h.2.2.1, h.2.2.2.1, h.2.2.2.2, fun _ z => absurd z (by decide), fun _ _ => f1, fun _ z => absurd z (by decide), fun z _ => absurd z (by decide), fun _ z => absurd z (by decide), fun z => absurd z (by decide), fun z => absurd z (by decide), fun z _ => absurd z (by decide), fun z _ => absurd z (by decide), fun z _ => absurd z (by decide), fun z _ => absurd z (by decide), fun z => absurd z (by decide), fun z _ => absurd z (by decide)⟩
theorem hq_LO_g12 {L H T : Nat} {a b c m s0 s1 : Int} (h : hq_LO L H T 12 a b c m s0 s1) : (0 ≤ a ∧ a ≤ H) :=
  h.2.2.2.2.2.2.2.1 (by decide) (by decide)
theorem hq_LO_13 {L H T : Nat} {a b c m s0 s1 : Int} (h : (-1 ≤ a ∧ a ≤ L) ∧ (-1 ≤ b ∧ b ≤ L) ∧ (-1 ≤ c ∧ c ≤ L) ∧ (-1 ≤ s0 ∧ s0 ≤ L) ∧ (-1 ≤ s1 ∧ s1 ≤ L)) (f1 : 0 ≤ a ∧ a ≤ H) (f3 : s0 = a) : hq_LO L H T 13 a b c m s0 s1 :=
  ⟨by decide, h.1, h.2.1, h.2.2.1, h.2.2.2.1, h.2.2.2.2, fun _ z => absurd z (by decide), fun _ _ => f1, fun _ z => absurd z (by decide), fun _ _ => f3, fun _ z => absurd z (by decide), fun z => absurd z (by decide), fun z => absurd z (by decide), fun z _ => absurd z (by decide), fun z _ => absurd z (by decide), fun z _ => absurd z (by decide), fun z _ => absurd z (by decide), fun z => absurd z (by decide), fun z _ => absurd z (by decide)⟩
theorem hq_LO_g13 {L H T : Nat} {a b c m s0 s1 : Int} (h : hq_LO L H T 13 a b c m s0 s1) : (0 ≤ a ∧ a ≤ H) ∧ (s0 = a) :=
  ⟨h.2.2.2.2.2.2.2.1 (by decide) (by decide), h.2.2.2.2.2.2.2.2.2.1 (by decide) (by decide)⟩
theorem hq_LO_14 {L H T : Nat} {a b c m s0 s1 : Int} (h : (-1 ≤ a ∧ a ≤ L) ∧ (-1 ≤ b ∧ b ≤ L) ∧ (-1 ≤ c ∧ c ≤ L) ∧ (-1 ≤ s0 ∧ s0 ≤ L) ∧ (-1 ≤ s1 ∧ s1 ≤ L)) (f1 : 0 ≤ a ∧ a ≤ H) (f3 : s0 = a) : hq_LO L H T 14 a b c m s0 s1 :=
  ⟨by decide, h.1, h.2.1, h.2.2.1, h.2.2.2.1, h.2.2.2.2, fun _ z => absurd z (by decide), fun _ _ => f1, fun _ z => absurd z (by decide), fun _ _ => f3, fun _ z => absurd z (by decide), fun z => absurd z (by decide), fun z => absurd z (by decide), fun z _ => absurd z (by decide), fun z _ => absurd z (by decide), fun z _ => absurd z (by decide), fun z _ => absurd z (by decide), fun z => absurd z (by decide), fun z _ => absurd z (by decide)⟩
theorem hq_LO_g14 {L H T : Nat} {a b c m s0 s1 : Int} (h : hq_LO L H T 14 a b c m s0 s1) : (0 ≤ a ∧ a ≤ H) ∧ (s0 = a) :=
  ⟨h.2.2.2.2.2.2.2.1 (by decide) (by decide), h.2.2.2.2.2.2.2.2.2.1 (by decide) (by decide)⟩
theorem hq_LO_15 {L H T : Nat} {a b c m s0 s1 : Int} (h : (-1 ≤ a ∧ a ≤ L) ∧ (-1 ≤ b ∧ b ≤ L) ∧ (-1 ≤ c ∧ c ≤ L) ∧ (-1 ≤ s0 ∧ s0 ≤ L) ∧ (-1 ≤ s1 ∧ s1 ≤ L)) (f1 : 0 ≤ a ∧ a ≤ H) (f3 : s0 = a) (f7 : a ≤ b ∧ b ≤ T) : hq_LO L H T 15 a b c m s0 s1 :=
  ⟨by decide, h.1, h.2.1, h.2.2.1, h.2.2.2.1, h.2.2.2.2, fun _ z => absurd z (by decide), fun _ _ => f1, fun _ z => absurd z (by decide), fun _ _ => f3, fun _ z => absurd z (by decide), fun z => absurd z (by decide), fun z => absurd z (by decide), fun _ _ => f7, fun z _ => absurd z (by decide), fun z _ => absurd z (by decide), fun z _ => absurd z (by decide), fun z => absurd z (by decide), fun z _ => absurd z (by decide)⟩
theorem hq_LO_g15 {L H T : Nat} {a b c m s0 s1 : Int} (h : hq_LO L H T 15 a b c m s0 s1) : (0 ≤ a ∧ a ≤ H) ∧ (s0 = a) ∧ (a ≤ b ∧ b ≤ T) :=
  ⟨h.2.2.2.2.2.2.2.1 (by decide) (by decide), h.2.2.2.2.2.2.2.2.2.1 (by decide) (by decide), h.2.2.2.2.2.2.2.2.2.2.2.2.2.1 (by decide) (by decide)⟩
theorem hq_LO_16 {L H T : Nat} {a b c m s0 s1 : Int} (h : (-1 ≤ a ∧ a ≤ L) ∧ (-1 ≤ b ∧ b ≤ L) ∧ (-1 ≤ c ∧ c ≤ L) ∧ (-1 ≤ s0 ∧ s0 ≤ L) ∧ (-1 ≤ s1 ∧ s1 ≤ L)) (f1 : 0 ≤ a ∧ a ≤ H) (f3 : s0 = a) (f7 : a ≤ b ∧ b ≤ T) (f8 : 1 ≤ m ∧ (c = -1 ∨ c = a + 1)) : hq_LO L H T 16 a b c m s0 s1 :=
  ⟨by decide, h.1, h.2.1, h.2.2.1, h.2.2.2.1, h.2.2.2.2, fun _ z => absurd z (by decide), fun _ _ => f1, fun _ z => absurd z (by decide), fun _ _ => f3, fun _ z => absurd z (by decide), fun z => absurd z (by decide), fun z => absurd z (by decide), fun _ _ => f7, fun _ _ => f8, fun z _ => absurd z (by decide), fun z _ => absurd z (by decide), fun z => absurd z (by decide), fun z _ => absurd z (by decide)⟩
theorem hq_LO_g16 {L H T : Nat} {a b c m s0 s1 : Int} (h : hq_LO L H T 16 a b c m s0 s1) : (0 ≤ a ∧ a ≤ H) ∧ (s0 = a) ∧ (a ≤ b ∧ b ≤ T) ∧ (1 ≤ m ∧ (c = -1 ∨ c = a + 1)) :=
  ⟨h.2.2.2.2.2.2.2.1 (by decide) (by decide), h.2.2.2.2.2.2.2.2.2.1 (by decide) (by decide), h.2.2.2.2.2.2.2.2.2.2.2.2.2.1 (by decide) (by decide), h.2.2.2.2.2.2.2.2.2.2.2.2.2.2.1 (by decide) (by decide)⟩
theorem hq_LO_17 {L H T : Nat} {a b c m s0 s1 : Int} (h : (-1 ≤ a ∧ a ≤ L) ∧ (-1 ≤ b ∧ b ≤ L) ∧ (-1 ≤ c ∧ c ≤ L) ∧ (-1 ≤ s0 ∧ s0 ≤ L) ∧ (-1 ≤ s1 ∧ s1 ≤ L)) (f1 : 0 ≤ a ∧ a ≤ H) (f3 : s0 = a) (f7 : a ≤ b ∧ b ≤ T) (f8 : 1 ≤ m ∧ (c = -1 ∨ c = a + 1)) (f10 : s1 = c) : hq_LO L H T 17 a b c m s0 s1 :=
  ⟨by decide, h.1, h.2.1, h.2.2.1, h.2.2.2.1, h.2.2.2.2, fun _ z => absurd z (by decide), fun _ _ => f1, fun _ z => absurd z (by decide), fun _ _ => f3, fun _ z => absurd z (by decide), fun z => absurd z (by decide), fun z => absurd z (by decide), fun _ _ => f7, fun _ _ => f8, fun z _ => absurd z (by decide), fun _ _ => f10, fun z => absurd z (by decide), fun z _ => absurd z (by decide)⟩
theorem hq_LO_g17 {L H T : Nat} {a b c m s0 s1 : Int} (h : hq_LO L H T 17 a b c m s0 s1) : (0 ≤ a ∧ a ≤ H) ∧ (s0 = a) ∧ (a ≤ b ∧ b ≤ T) ∧ (1 ≤ m ∧ (c = -1 ∨ c = a + 1)) ∧ (s1 = c) :=
  ⟨h.2.2.2.2.2.2.2.1 (by decide) (by decide), h.2.2.2.2.2.2.2.2.2.1 (by decide) (by decide), h.2.2.2.2.2.2.2.2.2.2.2.2.2.1 (by decide) (by decide), h.2.2.2.2.2.2.2.2.2.2.2.2.2.2.1 (by decide) (by decide), h.2.2.2.2.2.2.2.2.2.2.2.2.2.2.2.2.1 (by decide) (by decide)⟩
theorem hq_LO_18 {L H T : Nat} {a b c m s0 s1 : Int} (h : (-1 ≤ a ∧ a ≤ L) ∧ (-1 ≤ b ∧ b ≤ L) ∧ (-1 ≤ c ∧ c ≤ L) ∧ (-1 ≤ s0 ∧ s0 ≤ L) ∧ (-1 ≤ s1 ∧ s1 ≤ L)) (f1 : 0 ≤ a ∧ a ≤ H) (f3 : s0 = a) (f7 : a ≤ b ∧ b ≤ T) (f8 : 1 ≤ m ∧ (c = -1 ∨ c = a + 1)) (f9 : c = a + 1) (f10 : s1 = c) (f11 : a = b) : hq_LO L H T 18 a b c m s0 s1 :=
  ⟨by decide, h.1, h.2.1, h.2.2.1, h.2.2.2.1, h.2.2.2.2, fun _ z => absurd z (by decide), fun _ _ => f1, fun _ z => absurd z (by decide), fun _ _ => f3, fun _ z => absurd z (by decide), fun z => absurd z (by decide), fun z => absurd z (by decide), fun _ _ => f7, fun _ _ => f8, fun _ _ => f9, fun _ _ => f10, fun _ => f11, fun z _ => absurd z (by decide)⟩
theorem hq_LO_g18 {L H T : Nat} {a b c m s0 s1 : Int} (h : hq_LO L H T 18 a b c m s0 s1) : (0 ≤ a ∧ a ≤ H) ∧ (s0 = a) ∧ (a ≤ b ∧ b ≤ T) ∧ (1 ≤ m ∧ (c = -1 ∨ c = a + 1)) ∧ (c = a + 1) ∧ (s1 = c) ∧ (a = b) :=
  ⟨h.2.2.2.2.2.2.2.1 (by decide) (by decide), h.2.2.2.2.2.2.2.2.2.1 (by decide) (by decide), h.2.2.2.2.2.2.2.2.2.2.2.2.2.1 (by decide) (by decide), h.2.2.2.2.2.2.2.2.2.2.2.2.2.2.1 (by decide) (by decide), h.2.2.2.2.2.2.2.2.2.2.2.2.2.2.2.1 (by decide) (by decide), h.2.2.2.2.2.2.2.2.2.2.2.2.2.2.2.2.1 (by decide) (by decide), h.2.2.2.2.2.2.2.2.2.2.2.2.2.2.2.2.2.1 rfl⟩
theorem hq_LO_19 {L H T : Nat} {a b c m s0 s1 : Int} (h : (-1 ≤ a ∧ a ≤ L) ∧ (-1 ≤ b ∧ b ≤ L) ∧ (-1 ≤ c ∧ c ≤ L) ∧ (-1 ≤ s0 ∧ s0 ≤ L) ∧ (-1 ≤ s1 ∧ s1 ≤ L)) (f1 : 0 ≤ a ∧ a ≤ H) (f3 : s0 = a) (f7 : a ≤ b ∧ b ≤ T) (f8 : 1 ≤ m ∧ (c = -1 ∨ c = a + 1)) (f9 : c = a + 1) (f10 : s1 = c) (f12 : a < b) : hq_LO L H T 19 a b c m s0 s1 :=
  ⟨by decide, h.1, h.2.1, h.2.2.1, h.2.2.2.1, h.2.2.2.2, fun _ z => absurd z (by decide), fun _ _ => f1, fun _ z => absurd z (by decide), fun _ _ => f3, fun _ z => absurd z (by decide), fun z => absurd z (by decide), fun z => absurd z (by decide), fun _ _ => f7, fun _ _ => f8, fun _ _ => f9, fun _ _ => f10, fun z => absurd z (by decide), fun _ _ => f12⟩
theorem hq_LO_g19 {L H T : Nat} {a b c m s0 s1 : Int} (h : hq_LO L H T 19 a b c m s0 s1) : (0 ≤ a ∧ a ≤ H) ∧ (s0 = a) ∧ (a ≤ b ∧ b ≤ T) ∧ (1 ≤ m ∧ (c = -1 ∨ c = a + 1)) ∧ (c = a + 1) ∧ (s1 = c) ∧ (a < b) :=
  ⟨h.2.2.2.2.2.2.2.1 (by decide) (by decide), h.2.2.2.2.2.2.2.2.2.1 (by decide) (by decide), h.2.2.2.2.2.2.2.2.2.2.2.2.2.1 (by decide) (by decide), h.2.2.2.2.2.2.2.2.2.2.2.2.2.2.1 (by decide) (by decide), h.2.2.2.2.2.2.2.2.2.2.2.2.2.2.2.1 (by decide) (by decide), h.2.2.2.2.2.2.2.2.2.2.2.2.2.2.2.2.1 (by decide) (by decide), h.2.2.2.2.2.2.2.2.2.2.2.2.2.2.2.2.2.2 (by decide) (by decide)⟩
theorem hq_LO_20 {L H T : Nat} {a b c m s0 s1 : Int} (h : (-1 ≤ a ∧ a ≤ L) ∧ (-1 ≤ b ∧ b ≤ L) ∧ (-1 ≤ c ∧ c ≤ L) ∧ (-1 ≤ s0 ∧ s0 ≤ L) ∧ (-1 ≤ s1 ∧ s1 ≤ L)) (f1 : 0 ≤ a ∧ a ≤ H) (f3 : s0 = a) (f7 : a ≤ b ∧ b ≤ T) (f8 : 1 ≤ m ∧ (c = -1 ∨ c = a + 1)) (f9 : c = a + 1) (f10 : s1 = c) (f12 : a < b) : hq_LO L H T 20 a b c m s0 s1 :=
  ⟨by decide, h.1, h.2.1, h.2.2.1, h.2.2.2.1, h.2.2.2.2, fun _ z => absurd z (by decide), fun _ _ => f1, fun _ z => absurd z (by decide), fun _ _ => f3, fun _ z => absurd z (by decide), fun z => absurd z (by decide), fun z => absurd z (by decide), fun _ _ => f7, fun _ _ => f8, fun _ _ => f9, fun _ _ => f10, fun z => absurd z (by decide), fun _ _ => f12⟩
theorem hq_LO_g20 {L H T : Nat} {a b c m s0 s1 : Int} (h : hq_LO L H T 20 a b c m s0 s1) : (0 ≤ a ∧ a ≤ H) ∧ (s0 = a) ∧ (a ≤ b ∧ b ≤ T) ∧ (1 ≤ m ∧ (c = -1 ∨ c = a + 1)) ∧ (c = a + 1) ∧ (s1 = c) ∧ (a < b) :=
  ⟨h.2.2.2.2.2.2.2.1 (by decide) (by decide), h.2.2.2.2.2.2.2.2.2.1 (by decide) (by decide), h.2.2.2.2.2.2.2.2.2.2.2.2.2.1 (by decide) (by decide), h.2.2.2.2.2.2.2.2.2.2.2.2.2.2.1 (by decide) (by decide), h.2.2.2.2.2.2.2.2.2.2.2.2.2.2.2.1 (by decide) (by decide), h.2.2.2.2.2.2.2.2.2.2.2.2.2.2.2.2.1 (by decide) (by decide), h.2.2.2.2.2.2.2.2.2.2.2.2.2.2.2.2.2.2 (by decide) (by decide)⟩
theorem hq_LO_21 {L H T : Nat} {a b c m s0 s1 : Int} (h : (-1 ≤ a ∧ a ≤ L) ∧ (-1 ≤ b ∧ b ≤ L) ∧ (-1 ≤ c ∧ c ≤ L) ∧ (-1 ≤ s0 ∧ s0 ≤ L) ∧ (-1 ≤ s1 ∧ s1 ≤ L)) (f1 : 0 ≤ a ∧ a ≤ H) : hq_LO L H T 21 a b c m s0 s1 :=
  ⟨by decide, h.1, h.2.1, h.2.2.1, h.2.2.2.1, h.2.2.2.2, fun _ z => absurd z (by decide), fun _ _ => f1, fun _ z => absurd z (by decide), fun _ z => absurd z (by decide), fun _ z => absurd z (by decide), fun z => absurd z (by decide), fun z => absurd z (by decide), fun _ z => absurd z (by decide), fun _ z => absurd z (by decide), fun _ z => absurd z (by decide), fun _ z => absurd z (by decide), fun z => absurd z (by decide), fun _ z => absurd z (by decide)⟩
theorem hq_LO_g21 {L H T : Nat} {a b c m s0 s1 : Int} (h : hq_LO L H T 21 a b c m s0 s1) : (0 ≤ a ∧ a ≤ H) :=
  h.2.2.2.2.2.2.2.1 (by decide) (by decide)
end
section
/-! the enqueue's steps, both sides -/
section
variable {k : Nat → Nat} {ls : Nat → List Nat} {ll : List Nat} {H T L tm cnt fc lim thr cel : Nat} {cN cX cV cS cO fs hz ph oo rA rB rC m vr pc sR sC rt rn ops lo a b c s0 s1 sp lb fa ow : Nat → Int32} {sz : Nat → Int32} {t o : Nat} {x : Int32}
theorem hm_rA (R : hq_RR k ls ll H T L tm cnt fc lim thr cel cN cX cV cS cO fs hz ph oo rA rB rC m vr pc sR sC rt rn ops lo a b c s0 s1 sp lb fa ow) (ht : t < 4) : rA t = hq_rf k (a t) := R.2.2.1.2.1 t ht
theorem hm_rB (R : hq_RR k ls ll H T L tm cnt fc lim thr cel cN cX cV cS cO fs hz ph oo rA rB rC m vr pc sR sC rt rn ops lo a b c s0 s1 sp lb fa ow) (ht : t < 4) : rB t = hq_rf k (b t) := R.2.2.1.2.2.1 t ht
theorem hm_rC (R : hq_RR k ls ll H T L tm cnt fc lim thr cel cN cX cV cS cO fs hz ph oo rA rB rC m vr pc sR sC rt rn ops lo a b c s0 s1 sp lb fa ow) (ht : t < 4) : rC t = hq_rf k (c t) := R.2.2.1.2.2.2.1 t ht
theorem hm_cA (R : hq_RR k ls ll H T L tm cnt fc lim thr cel cN cX cV cS cO fs hz ph oo rA rB rC m vr pc sR sC rt rn ops lo a b c s0 s1 sp lb fa ow) (ht : t < 4) {n : Nat} (hn : n ≤ L) : hq_rf k (nI n) = rA t ↔ nI n = a t := by
  have gSc := R.1
  unfold hq_sc at gSc
  rw [hm_rA R ht]
  exact hq_rf_inj (by omega) R.2.2.1.1 (by rw [nI_toInt (by omega)]; omega) (hq_LO_rg (R.2.1 t ht)).1.2
theorem hm_cB (R : hq_RR k ls ll H T L tm cnt fc lim thr cel cN cX cV cS cO fs hz ph oo rA rB rC m vr pc sR sC rt rn ops lo a b c s0 s1 sp lb fa ow) (ht : t < 4) {n : Nat} (hn : n ≤ L) : hq_rf k (nI n) = rB t ↔ nI n = b t := by
  have gSc := R.1
  unfold hq_sc at gSc
  rw [hm_rB R ht]
  exact hq_rf_inj (by omega) R.2.2.1.1 (by rw [nI_toInt (by omega)]; omega) (hq_LO_rg (R.2.1 t ht)).2.1.2
theorem hm_cAB (R : hq_RR k ls ll H T L tm cnt fc lim thr cel cN cX cV cS cO fs hz ph oo rA rB rC m vr pc sR sC rt rn ops lo a b c s0 s1 sp lb fa ow) (ht : t < 4) : rA t = rB t ↔ a t = b t := by
  have gSc := R.1
  unfold hq_sc at gSc
  rw [hm_rA R ht, hm_rB R ht]
  exact hq_rf_inj (by omega) R.2.2.1.1 (hq_LO_rg (R.2.1 t ht)).1.2 (hq_LO_rg (R.2.1 t ht)).2.1.2
theorem hm_cC (R : hq_RR k ls ll H T L tm cnt fc lim thr cel cN cX cV cS cO fs hz ph oo rA rB rC m vr pc sR sC rt rn ops lo a b c s0 s1 sp lb fa ow) (ht : t < 4) : rC t = -1 ↔ c t = -1 := by
  have gSc := R.1
  unfold hq_sc at gSc
  rw [hm_rC R ht]
  exact hq_rf_m1_iff (by omega) R.2.2.1.1 (hq_LO_rg (R.2.1 t ht)).2.2.1.2
/-- the link of a node in a cell, both sides -/
theorem hm_next (R : hq_RR k ls ll H T L tm cnt fc lim thr cel cN cX cV cS cO fs hz ph oo rA rB rC m vr pc sR sC rt rn ops lo a b c s0 s1 sp lb fa ow) {n : Nat} (hn : hq_hl H L fa n = true) : ∀ post : Int32 → Prop, post (hq_rf k (if n < L then nI (n + 1) else -1)) → wpX_nextOf post (nI fc, hq_rf k (nI H), hq_rf k (nI T), nI L, nI tm, nI cnt, nI (List.length ll), nI lim, nI thr, cN, cX, cV, cS, cO, fs, hz, ph, oo, rA, rB, rC, m, vr, pc, sR, sC, rt, rn, ops, lo, sz) (hq_rf k (nI n)) := by
  intro post h
  have gSc := R.1
  unfold hq_sc at gSc
  have hnL := (hq_hl_iff.mp hn).1
  obtain ⟨e1, e2, e3, e4⟩ := R.2.2.2.1.1 n hn
  refine hx_nextOf (by omega) (R.2.2.1.1 n hnL) e1 ?_
  rw [e2]
  by_cases q : n < L
  · rw [if_pos q] at h ⊢; exact h
  · rw [if_neg q, hq_rf_m1] at h; rw [if_neg q]; exact h
theorem hm_nextY (R : hq_RR k ls ll H T L tm cnt fc lim thr cel cN cX cV cS cO fs hz ph oo rA rB rC m vr pc sR sC rt rn ops lo a b c s0 s1 sp lb fa ow) {n : Nat} (hn : n ≤ L) : ∀ post : Int32 → Prop, post (if n < L then nI (n + 1) else -1) → wpY_nextOf post (nI cel, nI lim, nI thr, nI tm, nI H, nI T, nI L, nI cnt, ops, ph, a, b, c, m, s0, s1, sp, lb, fa, ow) (nI n) := by
  intro post h
  have gSc := R.1
  unfold hq_sc at gSc
  exact hy_nextOf (by omega) (by omega) h
theorem hm_free (R : hq_RR k ls ll H T L tm cnt fc lim thr cel cN cX cV cS cO fs hz ph oo rA rB rC m vr pc sR sC rt rn ops lo a b c s0 s1 sp lb fa ow) (hok : hq_ok ph) : ∀ post : Int32 → Prop, post (nI fc) → wpY_freeCells post (nI cel, nI lim, nI thr, nI tm, nI H, nI T, nI L, nI cnt, ops, ph, a, b, c, m, s0, s1, sp, lb, fa, ow) := by
  intro post h
  have gSc := R.1
  unfold hq_sc at gSc
  exact hy_freeCells (by omega) (by omega) (fun s hs => (R.2.1 s hs).1.1) R.2.2.2.1.2.2 R.2.2.2.2.2.2.2.1 h
theorem hm_retd (R : hq_RR k ls ll H T L tm cnt fc lim thr cel cN cX cV cS cO fs hz ph oo rA rB rC m vr pc sR sC rt rn ops lo a b c s0 s1 sp lb fa ow) (ht : t < 4) : ∀ post : Int32 → Prop, post (nI (ls t).length) → wpY_retiredBy post (nI cel, nI lim, nI thr, nI tm, nI H, nI T, nI L, nI cnt, ops, ph, a, b, c, m, s0, s1, sp, lb, fa, ow) (nI t) := by
  intro post h
  have gSc := R.1
  unfold hq_sc at gSc
  rw [(hm_len R ht).2] at h
  exact hy_retiredBy (by omega) (by omega) h
theorem hs_out (R : hq_RR k ls ll H T L tm cnt fc lim thr cel cN cX cV cS cO fs hz ph oo rA rB rC m vr pc sR sC rt rn ops lo a b c s0 s1 sp lb fa ow) (hs : hq_sz tm cnt ops sz) (hok : hq_ok ph) (ht : t < 4) (htm : tm + 1 ≤ 1000) (ho : o < 64) (hoo : oo t = nI o) {P : Int} (hP : (ph t).toInt = P) (hc : P = 1 ∨ P = 2) :
    hq_RR k ls ll H T L (tm + 1) cnt fc lim thr cel cN cX cV cS cO fs (upd (upd hz (2 * t) (-1)) (2 * t + 1) (-1)) (upd ph t 0) (upd oo t (-1)) (upd rA t (-1)) (upd rB t (-1)) (upd rC t (-1)) (upd m t 0) vr pc (hq_clr sR t) (upd sC t 0) rt rn (upd (upd ops (7 * o + 3) 3) (7 * o + 6) (nI (tm + 1))) lo (upd a t (-1)) (upd b t (-1)) (upd c t (-1)) (upd s0 t (-1)) (upd s1 t (-1)) (hq_clr sp t) lb fa ow := by
  have hlo := R.2.1 t ht
  have R1 := hm_tick R htm
  have R2 := hm_go (x := 24) R1 ht hP hq_i24 (by omega) (hq_LO_0 (by omega) (hq_LO_rg hlo)) (fun z => by omega) (fun z => by omega)
  have R3 := hm_end (r := 3) (w := nI (tm + 1)) R2 ht (by rw [pk_us]; exact hq_i24) ho hoo (by decide)
  rw [hq_uu (f := ph)] at R3
  exact R3
theorem hs_1 (R : hq_RR k ls ll H T L tm cnt fc lim thr cel cN cX cV cS cO fs hz ph oo rA rB rC m vr pc sR sC rt rn ops lo a b c s0 s1 sp lb fa ow) (hs : hq_sz tm cnt ops sz) (hok : hq_ok ph) (ht : t < 4) (htm : tm + 1 ≤ 1000) (ho : o < 64) (hoo : oo t = nI o) (hp : ph t = 1) : hq_OC t tm cnt lim thr cel sz (fun post => wpX_enqueueStep post (nI fc, hq_rf k (nI H), hq_rf k (nI T), nI L, nI (tm + 1), nI cnt, nI (List.length ll), nI lim, nI thr, cN, cX, cV, cS, cO, fs, hz, ph, oo, rA, rB, rC, m, vr, pc, sR, sC, rt, rn, ops, lo, sz) (nI t) 1) (fun post => wpY_enqueueStep post (nI cel, nI lim, nI thr, nI (tm + 1), nI H, nI T, nI L, nI cnt, ops, ph, a, b, c, m, s0, s1, sp, lb, fa, ow) (nI t) (nI o) 1) := by
  have gSc := R.1
  unfold hq_sc at gSc
  have R1 := hm_tick R htm
  have hP : (ph t).toInt = 1 := by rw [hp]; exact hq_i1
  have hlo := R.2.1 t ht
  have hct := R.2.2.2.2.2.2.2.1
  unfold hq_ct at hct
  cases fc with
  | succ f =>
    obtain ⟨d, hd, hfs, _⟩ := R.2.2.2.2.2.1.1 f (by omega)
    exact hq_OC_mk 0 (hm_take R1 ht (by omega) (by omega) ho hoo hd hfs rfl) hs (hq_ok_u hok (by decide)) (hq_nz_u (by decide))
      (fun post h => hx_e1 (hx_take_ok ht (by omega) ho hoo hd hfs h))
      (fun post h => hy_e12 (Or.inl rfl) (hy_take_ok ht (hm_free R1 hok) (by omega) (by omega) h))
  | zero =>
    have hlen := hm_len R ht
    have hrn : rn t = nI (ls t).length := (R.2.2.2.2.2.2.2.2.1 t ht).2.2.1
    by_cases q : 0 < (ls t).length
    · exact hq_OC_mk 0 (hm_go (x := 22) R1 ht hP hq_i22 (by omega) (hq_LO_0 (by omega) (hq_LO_rg hlo)) (fun z => by omega) (fun z => by omega)) hs (hq_ok_u hok (by decide)) (hq_nz_u (by decide))
        (fun post h => hx_e1 (hx_take_scan ht (by rw [hrn]; exact nI_nle q (by omega)) h))
        (fun post h => hy_e12 (Or.inl rfl) (hy_take_scan ht (hm_free R1 hok) (hm_retd R1 ht) q (by omega) h))
    · have q0 : (ls t).length = 0 := by omega
      have hB := hm_retd R1 ht
      rw [q0] at hB hrn
      exact hq_OC_mk 3 (hs_out R hs hok ht htm ho hoo hP (Or.inl rfl)) (hz_fin hs) (hq_ok_u hok (by decide)) (fun z => absurd z (by decide))
        (fun post h => hx_e1 (hx_take_out1 ht (by rw [hrn]; decide) (hx_finish ht ho hoo h)))
        (fun post h => hy_e12 (Or.inl rfl) (hy_take_out1 ht (hm_free R1 hok) hB (hy_finish ht ho h)))
theorem hs_2 (R : hq_RR k ls ll H T L tm cnt fc lim thr cel cN cX cV cS cO fs hz ph oo rA rB rC m vr pc sR sC rt rn ops lo a b c s0 s1 sp lb fa ow) (hs : hq_sz tm cnt ops sz) (hok : hq_ok ph) (ht : t < 4) (htm : tm + 1 ≤ 1000) (ho : o < 64) (hoo : oo t = nI o) (hp : ph t = 2) : hq_OC t tm cnt lim thr cel sz (fun post => wpX_enqueueStep post (nI fc, hq_rf k (nI H), hq_rf k (nI T), nI L, nI (tm + 1), nI cnt, nI (List.length ll), nI lim, nI thr, cN, cX, cV, cS, cO, fs, hz, ph, oo, rA, rB, rC, m, vr, pc, sR, sC, rt, rn, ops, lo, sz) (nI t) 2) (fun post => wpY_enqueueStep post (nI cel, nI lim, nI thr, nI (tm + 1), nI H, nI T, nI L, nI cnt, ops, ph, a, b, c, m, s0, s1, sp, lb, fa, ow) (nI t) (nI o) 2) := by
  have gSc := R.1
  unfold hq_sc at gSc
  have R1 := hm_tick R htm
  have hP : (ph t).toInt = 2 := by rw [hp]; exact hq_i2
  have hlo := R.2.1 t ht
  have hct := R.2.2.2.2.2.2.2.1
  unfold hq_ct at hct
  cases fc with
  | succ f =>
    obtain ⟨d, hd, hfs, _⟩ := R.2.2.2.2.2.1.1 f (by omega)
    exact hq_OC_mk 0 (hm_take R1 ht (by omega) (by omega) ho hoo hd hfs rfl) hs (hq_ok_u hok (by decide)) (hq_nz_u (by decide))
      (fun post h => hx_e2 (hx_take_ok ht (by omega) ho hoo hd hfs h))
      (fun post h => hy_e12 (Or.inr rfl) (hy_take_ok ht (hm_free R1 hok) (by omega) (by omega) h))
  | zero =>
    exact hq_OC_mk 3 (hs_out R hs hok ht htm ho hoo hP (Or.inr rfl)) (hz_fin hs) (hq_ok_u hok (by decide)) (fun z => absurd z (by decide))
      (fun post h => hx_e2 (hx_take_out2 ht (hx_finish ht ho hoo h)))
      (fun post h => hy_e12 (Or.inr rfl) (hy_take_out2 ht (hm_free R1 hok) (hy_finish ht ho h)))
theorem hs_3 (R : hq_RR k ls ll H T L tm cnt fc lim thr cel cN cX cV cS cO fs hz ph oo rA rB rC m vr pc sR sC rt rn ops lo a b c s0 s1 sp lb fa ow) (hs : hq_sz tm cnt ops sz) (hok : hq_ok ph) (ht : t < 4) (htm : tm + 1 ≤ 1000) (ho : o < 64) (hoo : oo t = nI o) (hp : ph t = 3) : hq_OC t tm cnt lim thr cel sz (fun post => wpX_enqueueStep post (nI fc, hq_rf k (nI H), hq_rf k (nI T), nI L, nI (tm + 1), nI cnt, nI (List.length ll), nI lim, nI thr, cN, cX, cV, cS, cO, fs, hz, ph, oo, rA, rB, rC, m, vr, pc, sR, sC, rt, rn, ops, lo, sz) (nI t) 3) (fun post => wpY_enqueueStep post (nI cel, nI lim, nI thr, nI (tm + 1), nI H, nI T, nI L, nI cnt, ops, ph, a, b, c, m, s0, s1, sp, lb, fa, ow) (nI t) (nI o) 3) := by
  have gSc := R.1
  unfold hq_sc at gSc
  have R1 := hm_tick R htm
  have hP : (ph t).toInt = 3 := by rw [hp]; exact hq_i3
  have hlo := hq_LO_rg (R.2.1 t ht)
  have hT : (nI T).toInt = T := nI_toInt (by omega)
  have R2 := hm_a (x := nI T) R1 ht (hq_LO_0 (by omega) (by rw [hT]; omega)) (by omega) (by omega)
  have R3 := hm_go (x := 4) R2 ht hP hq_i4 (by omega) (by rw [pk_us, hT]; exact hq_LO_4 (by omega) (by omega)) (fun z => by omega) (fun z => by omega)
  exact hq_OC_mk 0 R3 hs (hq_ok_u hok (by decide)) (hq_nz_u (by decide)) (fun post h => hx_e3 ht h) (fun post h => hy_e3 ht h)
theorem hs_4 (R : hq_RR k ls ll H T L tm cnt fc lim thr cel cN cX cV cS cO fs hz ph oo rA rB rC m vr pc sR sC rt rn ops lo a b c s0 s1 sp lb fa ow) (hs : hq_sz tm cnt ops sz) (hok : hq_ok ph) (ht : t < 4) (htm : tm + 1 ≤ 1000) (ho : o < 64) (hoo : oo t = nI o) (hp : ph t = 4) : hq_OC t tm cnt lim thr cel sz (fun post => wpX_enqueueStep post (nI fc, hq_rf k (nI H), hq_rf k (nI T), nI L, nI (tm + 1), nI cnt, nI (List.length ll), nI lim, nI thr, cN, cX, cV, cS, cO, fs, hz, ph, oo, rA, rB, rC, m, vr, pc, sR, sC, rt, rn, ops, lo, sz) (nI t) 4) (fun post => wpY_enqueueStep post (nI cel, nI lim, nI thr, nI (tm + 1), nI H, nI T, nI L, nI cnt, ops, ph, a, b, c, m, s0, s1, sp, lb, fa, ow) (nI t) (nI o) 4) := by
  have gSc := R.1
  unfold hq_sc at gSc
  have R1 := hm_tick R htm
  have hP : (ph t).toInt = 4 := by rw [hp]; exact hq_i4
  have hlo := R.2.1 t ht
  rw [hP] at hlo
  have g := hq_LO_g4 hlo
  have rg := hq_LO_rg hlo
  have R2 := hm_s0 (x := a t) R1 ht (by rw [hP]; exact hq_LO_4 (by omega) g)
  have R3 := hm_go (x := 5) R2 ht hP hq_i5 (by omega) (by rw [pk_us]; exact hq_LO_5 (by omega) g rfl) (fun z => by omega) (fun z => by omega)
  exact hq_OC_mk 0 R3 hs (hq_ok_u hok (by decide)) (hq_nz_u (by decide)) (fun post h => hx_e4 ht (by rw [hm_rA R ht]; exact h)) (fun post h => hy_e4 ht h)
theorem hs_5 (R : hq_RR k ls ll H T L tm cnt fc lim thr cel cN cX cV cS cO fs hz ph oo rA rB rC m vr pc sR sC rt rn ops lo a b c s0 s1 sp lb fa ow) (hs : hq_sz tm cnt ops sz) (hok : hq_ok ph) (ht : t < 4) (htm : tm + 1 ≤ 1000) (ho : o < 64) (hoo : oo t = nI o) (hp : ph t = 5) : hq_OC t tm cnt lim thr cel sz (fun post => wpX_enqueueStep post (nI fc, hq_rf k (nI H), hq_rf k (nI T), nI L, nI (tm + 1), nI cnt, nI (List.length ll), nI lim, nI thr, cN, cX, cV, cS, cO, fs, hz, ph, oo, rA, rB, rC, m, vr, pc, sR, sC, rt, rn, ops, lo, sz) (nI t) 5) (fun post => wpY_enqueueStep post (nI cel, nI lim, nI thr, nI (tm + 1), nI H, nI T, nI L, nI cnt, ops, ph, a, b, c, m, s0, s1, sp, lb, fa, ow) (nI t) (nI o) 5) := by
  have gSc := R.1
  unfold hq_sc at gSc
  have R1 := hm_tick R htm
  have hP : (ph t).toInt = 5 := by rw [hp]; exact hq_i5
  have hlo := R.2.1 t ht
  rw [hP] at hlo
  have g := hq_LO_g5 hlo
  have hcmp := hm_cA R ht (n := T) (by omega)
  by_cases e : nI T = a t
  · have R3 := hm_go (x := 6) R1 ht hP hq_i6 (by omega) (hq_LO_6 (hq_LO_rg hlo) g.1 g.2) (fun _ n hn en => hm_lin R (by
      rw [← e, nI_eq (by omega) (by omega)] at en; omega) hn) (fun z => by omega)
    exact hq_OC_mk 0 R3 hs (hq_ok_u hok (by decide)) (hq_nz_u (by decide)) (fun post h => hx_e5a ht (hcmp.mpr e) h) (fun post h => hy_e5a ht e h)
  · have R3 := hm_go (x := 3) R1 ht hP hq_i3 (by omega) (hq_LO_0 (by omega) (hq_LO_rg hlo)) (fun z => by omega) (fun z => by omega)
    exact hq_OC_mk 0 R3 hs (hq_ok_u hok (by decide)) (hq_nz_u (by decide)) (fun post h => hx_e5b ht (fun z => e (hcmp.mp z)) h) (fun post h => hy_e5b ht e h)
/-- the guarded node of an enqueue or a dequeue -/
theorem hm_guard (R : hq_RR k ls ll H T L tm cnt fc lim thr cel cN cX cV cS cO fs hz ph oo rA rB rC m vr pc sR sC rt rn ops lo a b c s0 s1 sp lb fa ow) (ht : t < 4) (h : (6 ≤ (ph t).toInt ∧ (ph t).toInt ≤ 9) ∨ (14 ≤ (ph t).toInt ∧ (ph t).toInt ≤ 15)) : ∃ n, n ≤ L ∧ a t = nI n ∧ hq_hl H L fa n = true := by
  have hlo := R.2.1 t ht
  have h0 : 0 ≤ (a t).toInt := by
    obtain ⟨h0, h1, h2, h3, h4, h5, h6, h7, _⟩ := hlo
    rcases h with z | z
    · exact (h6 (by omega) (by omega)).1
    · exact (h7 (by omega) (by omega)).1
  obtain ⟨n, hn, en⟩ := hq_nle h0 (hq_LO_rg hlo).1.2
  exact ⟨n, hn, en, ((R.2.2.2.2.2.2.2.2.2.1 t ht).1 h n hn en).1⟩
theorem hs_6 (R : hq_RR k ls ll H T L tm cnt fc lim thr cel cN cX cV cS cO fs hz ph oo rA rB rC m vr pc sR sC rt rn ops lo a b c s0 s1 sp lb fa ow) (hs : hq_sz tm cnt ops sz) (hok : hq_ok ph) (ht : t < 4) (htm : tm + 1 ≤ 1000) (ho : o < 64) (hoo : oo t = nI o) (hp : ph t = 6) : hq_OC t tm cnt lim thr cel sz (fun post => wpX_enqueueStep post (nI fc, hq_rf k (nI H), hq_rf k (nI T), nI L, nI (tm + 1), nI cnt, nI (List.length ll), nI lim, nI thr, cN, cX, cV, cS, cO, fs, hz, ph, oo, rA, rB, rC, m, vr, pc, sR, sC, rt, rn, ops, lo, sz) (nI t) 6) (fun post => wpY_enqueueStep post (nI cel, nI lim, nI thr, nI (tm + 1), nI H, nI T, nI L, nI cnt, ops, ph, a, b, c, m, s0, s1, sp, lb, fa, ow) (nI t) (nI o) 6) := by
  have gSc := R.1
  unfold hq_sc at gSc
  have R1 := hm_tick R htm
  have hP : (ph t).toInt = 6 := by rw [hp]; exact hq_i6
  have hlo := R.2.1 t ht
  rw [hP] at hlo
  have g := hq_LO_g6 hlo
  have rg := hq_LO_rg hlo
  obtain ⟨n, hn, en, hh⟩ := hm_guard R ht (by omega)
  have hni : (a t).toInt = n := by rw [en, nI_toInt (by omega)]
  have hr : (if n < L then nI (n + 1) else -1 : Int32).toInt = -1 ∨ ((if n < L then nI (n + 1) else -1 : Int32).toInt = (a t).toInt + 1 ∧ n < L) := by
    by_cases q : n < L
    · rw [if_pos q, nI_toInt (by omega)]; right; omega
    · rw [if_neg q, hq_im1]; left; rfl
  have R2 := hm_c (x := if n < L then nI (n + 1) else -1) R1 ht (by rw [hP]; exact hq_LO_6 (by omega) g.1 g.2) (by omega) (by omega)
  have R3 := hm_go (x := 7) R2 ht hP hq_i7 (by omega) (by rw [pk_us]; exact hq_LO_7 (by omega) g.1 g.2 (by omega)) (fun _ q hq eq => (R.2.2.2.2.2.2.2.2.2.1 t ht).1 (by omega) q hq eq) (fun z => by omega)
  exact hq_OC_mk 0 R3 hs (hq_ok_u hok (by decide)) (hq_nz_u (by decide)) (fun post h => hx_e6 ht (by rw [hm_rA R ht, en]; exact hm_next R1 hh) h) (fun post h => hy_e6 ht (by rw [en]; exact hm_nextY R1 hn) h)
theorem hs_7 (R : hq_RR k ls ll H T L tm cnt fc lim thr cel cN cX cV cS cO fs hz ph oo rA rB rC m vr pc sR sC rt rn ops lo a b c s0 s1 sp lb fa ow) (hs : hq_sz tm cnt ops sz) (hok : hq_ok ph) (ht : t < 4) (htm : tm + 1 ≤ 1000) (ho : o < 64) (hoo : oo t = nI o) (hp : ph t = 7) : hq_OC t tm cnt lim thr cel sz (fun post => wpX_enqueueStep post (nI fc, hq_rf k (nI H), hq_rf k (nI T), nI L, nI (tm + 1), nI cnt, nI (List.length ll), nI lim, nI thr, cN, cX, cV, cS, cO, fs, hz, ph, oo, rA, rB, rC, m, vr, pc, sR, sC, rt, rn, ops, lo, sz) (nI t) 7) (fun post => wpY_enqueueStep post (nI cel, nI lim, nI thr, nI (tm + 1), nI H, nI T, nI L, nI cnt, ops, ph, a, b, c, m, s0, s1, sp, lb, fa, ow) (nI t) (nI o) 7) := by
  have gSc := R.1
  unfold hq_sc at gSc
  have R1 := hm_tick R htm
  have hP : (ph t).toInt = 7 := by rw [hp]; exact hq_i7
  have hlo := R.2.1 t ht
  rw [hP] at hlo
  have g := hq_LO_g7 hlo
  have hcmp := hm_cA R ht (n := T) (by omega)
  by_cases e : nI T = a t
  · by_cases e2 : c t = -1
    · have R3 := hm_go (x := 9) R1 ht hP hq_i9 (by omega) (hq_LO_9 (hq_LO_rg hlo) g.1 g.2.1 g.2.2) (fun _ q hq eq => (R.2.2.2.2.2.2.2.2.2.1 t ht).1 (by omega) q hq eq) (fun z => by omega)
      exact hq_OC_mk 0 R3 hs (hq_ok_u hok (by decide)) (hq_nz_u (by decide)) (fun post h => hx_e7a ht (hcmp.mpr e) ((hm_cC R ht).mpr e2) h) (fun post h => hy_e7a ht e e2 h)
    · have hc1 : (c t).toInt ≠ -1 := fun z => e2 (hq_inj (by rw [z, hq_im1]))
      have R3 := hm_go (x := 8) R1 ht hP hq_i8 (by omega) (hq_LO_8 (hq_LO_rg hlo) g.1 g.2.1 g.2.2 (g.2.2.resolve_left hc1)) (fun _ q hq eq => (R.2.2.2.2.2.2.2.2.2.1 t ht).1 (by omega) q hq eq) (fun z => by omega)
      exact hq_OC_mk 0 R3 hs (hq_ok_u hok (by decide)) (hq_nz_u (by decide)) (fun post h => hx_e7b ht (hcmp.mpr e) (fun z => e2 ((hm_cC R ht).mp z)) h) (fun post h => hy_e7b ht e e2 h)
  · have R3 := hm_go (x := 3) R1 ht hP hq_i3 (by omega) (hq_LO_0 (by omega) (hq_LO_rg hlo)) (fun z => by omega) (fun z => by omega)
    exact hq_OC_mk 0 R3 hs (hq_ok_u hok (by decide)) (hq_nz_u (by decide)) (fun post h => hx_e7c ht (fun z => e (hcmp.mp z)) h) (fun post h => hy_e7c ht e h)
theorem hs_8 (R : hq_RR k ls ll H T L tm cnt fc lim thr cel cN cX cV cS cO fs hz ph oo rA rB rC m vr pc sR sC rt rn ops lo a b c s0 s1 sp lb fa ow) (hs : hq_sz tm cnt ops sz) (hok : hq_ok ph) (ht : t < 4) (htm : tm + 1 ≤ 1000) (ho : o < 64) (hoo : oo t = nI o) (hp : ph t = 8) : hq_OC t tm cnt lim thr cel sz (fun post => wpX_enqueueStep post (nI fc, hq_rf k (nI H), hq_rf k (nI T), nI L, nI (tm + 1), nI cnt, nI (List.length ll), nI lim, nI thr, cN, cX, cV, cS, cO, fs, hz, ph, oo, rA, rB, rC, m, vr, pc, sR, sC, rt, rn, ops, lo, sz) (nI t) 8) (fun post => wpY_enqueueStep post (nI cel, nI lim, nI thr, nI (tm + 1), nI H, nI T, nI L, nI cnt, ops, ph, a, b, c, m, s0, s1, sp, lb, fa, ow) (nI t) (nI o) 8) := by
  have gSc := R.1
  unfold hq_sc at gSc
  have R1 := hm_tick R htm
  have hP : (ph t).toInt = 8 := by rw [hp]; exact hq_i8
  have hlo := R.2.1 t ht
  rw [hP] at hlo
  have g := hq_LO_g8 hlo
  have hcmp := hm_cA R ht (n := T) (by omega)
  by_cases e : nI T = a t
  · have hai : (a t).toInt = T := by rw [← e, nI_toInt (by omega)]
    have hci : (c t).toInt = ((T + 1 : Nat) : Int) := by rw [g.2.2.2, hai]; rfl
    have hTL : T + 1 ≤ L := by have := (hq_LO_rg hlo).2.2.1.2; omega
    have hc : c t = nI (T + 1) := hq_inj (by rw [hci, nI_toInt (by omega)])
    have R2 := hm_T (T' := T + 1) R1 (by omega) hTL
    have R3 := hm_go (x := 3) R2 ht hP hq_i3 (by omega) (hq_LO_0 (by omega) (hq_LO_rg hlo)) (fun z => by omega) (fun z => by omega)
    exact hq_OC_mk 0 R3 hs (hq_ok_u hok (by decide)) (hq_nz_u (by decide)) (fun post h => hx_e8 ht (by rw [if_pos (hcmp.mpr e), hm_rC R ht, hc]; exact h)) (fun post h => hy_e8a ht e (by rw [hc]; exact h))
  · have R3 := hm_go (x := 3) R1 ht hP hq_i3 (by omega) (hq_LO_0 (by omega) (hq_LO_rg hlo)) (fun z => by omega) (fun z => by omega)
    exact hq_OC_mk 0 R3 hs (hq_ok_u hok (by decide)) (hq_nz_u (by decide)) (fun post h => hx_e8 ht (by rw [if_neg (fun z => e (hcmp.mp z))]; exact h)) (fun post h => hy_e8b ht e h)
/-- what is fresh at a step -/
theorem hm_fresh (R : hq_RR k ls ll H T L tm cnt fc lim thr cel cN cX cV cS cO fs hz ph oo rA rB rC m vr pc sR sC rt rn ops lo a b c s0 s1 sp lb fa ow) : (∀ i, i < cnt → (hq_f ops i 5).toInt < ((tm + 1 : Nat) : Int)) ∧ (∀ s, s < 4 → (m s).toInt < ((tm + 1 : Nat) : Int)) := by
  obtain ⟨e1, e2, e3, e4, e5⟩ := R.2.2.2.2.2.2.2.2.2.2.2.2.1
  exact ⟨fun i hi => by have := (e1 i hi).2; omega, fun s hs => by have := (e3 s hs).2; omega⟩
theorem hs_9 (R : hq_RR k ls ll H T L tm cnt fc lim thr cel cN cX cV cS cO fs hz ph oo rA rB rC m vr pc sR sC rt rn ops lo a b c s0 s1 sp lb fa ow) (hs : hq_sz tm cnt ops sz) (hok : hq_ok ph) (ht : t < 4) (htm : tm + 1 ≤ 1000) (ho : o < 64) (hoo : oo t = nI o) (hp : ph t = 9) : hq_OC t tm cnt lim thr cel sz (fun post => wpX_enqueueStep post (nI fc, hq_rf k (nI H), hq_rf k (nI T), nI L, nI (tm + 1), nI cnt, nI (List.length ll), nI lim, nI thr, cN, cX, cV, cS, cO, fs, hz, ph, oo, rA, rB, rC, m, vr, pc, sR, sC, rt, rn, ops, lo, sz) (nI t) 9) (fun post => wpY_enqueueStep post (nI cel, nI lim, nI thr, nI (tm + 1), nI H, nI T, nI L, nI cnt, ops, ph, a, b, c, m, s0, s1, sp, lb, fa, ow) (nI t) (nI o) 9) := by
  have gSc := R.1
  unfold hq_sc at gSc
  have R1 := hm_tick R htm
  have hP : (ph t).toInt = 9 := by rw [hp]; exact hq_i9
  have hlo := R.2.1 t ht
  obtain ⟨n, hn, en, hh⟩ := hm_guard R ht (by omega)
  by_cases q : n < L
  · have R3 := hm_go (x := 3) R1 ht hP hq_i3 (by omega) (hq_LO_0 (by omega) (hq_LO_rg hlo)) (fun z => by omega) (fun z => by omega)
    have n1 := hm_next (sz := sz) R1 hh
    have n2 := hm_nextY R1 hn
    rw [if_pos q] at n1 n2
    have h1 : ¬ hq_rf k (nI (n + 1)) = -1 := by
      have hk := R.2.2.1.1 (n + 1) (by omega)
      rw [hq_rf_n (by omega)]
      exact fun z => hq_m1n (by omega) z.symm
    have h2 : ¬ nI (n + 1) = -1 := fun z => hq_m1n (by omega) z.symm
    exact hq_OC_mk 0 R3 hs (hq_ok_u hok (by decide)) (hq_nz_u (by decide)) (fun post h => hx_e9f ht (by rw [hm_rA R ht, en]; exact n1) h1 h) (fun post h => hy_e9f ht (by rw [en]; exact n2) h2 h)
  · have hnL : n = L := by omega
    subst hnL
    have n1 := hm_next (sz := sz) R1 hh
    have n2 := hm_nextY R1 hn
    rw [if_neg (Nat.lt_irrefl _)] at n1 n2
    rw [hq_rf_m1] at n1
    obtain ⟨hoc, hob⟩ := hm_o R ht (by omega) ho hoo
    rw [hP] at hob
    have hl0 : hq_f ops o 5 = 0 := hob.2.2.2.2.2.1 (by omega)
    have hk1 : hq_f ops o 0 = 1 := hob.2.2.2.1 (by omega)
    have hpv : hq_pv ph t = true := by rw [hq_pv_iff]; omega
    obtain ⟨d, hd, hpc, _⟩ := R.2.2.2.2.2.2.1.1 t ht hpv
    obtain ⟨fr1, fr2⟩ := hm_fresh R
    have hti : (nI (tm + 1)).toInt = ((tm + 1 : Nat) : Int) := nI_toInt (by omega)
    have htm0 : nI (tm + 1) ≠ 0 := nI_ne0 (by omega) (by omega)
    have hli := R.2.2.2.2.2.2.2.2.2.2.2.2.1.2.2.2.2
    have hne : ∀ i, i < cnt → hq_f ops i 5 ≠ nI (tm + 1) := fun i hi z => by
      have := fr1 i hi
      rw [z, hti] at this
      omega
    obtain ⟨ll', lo', hli', hw⟩ := @hx_linearise (nI fc) (hq_rf k (nI H)) (hq_rf k (nI T)) (nI (n + 1)) (nI (tm + 1)) (nI cnt) (nI lim) (nI thr) (upd cN d (nI (n + 1))) (upd cX (k n) (nI (16 * (n + 1) + d))) cV (upd cS d 1) cO fs hz ph oo rA rB rC m vr (upd pc t (-1)) sR sC rt rn ops lo sz o (nI (tm + 1)) ll cnt hli (by omega) hoc hl0 htm0 hne
    have R3 := hm_link R1 ht hP ho hoo hd hpc en fr1 fr2 hli'
    have hL64 : n + 1 ≤ 64 := by have := R3.1; unfold hq_sc at this; omega
    have hk16 : k n < 16 := R.2.2.1.1 n (by omega)
    have hkH : ∀ q, q ≤ n → hq_un k (n + 1) d q = k q := fun q hq => hq_un_n (by omega)
    have rH : hq_rf (hq_un k (n + 1) d) (nI H) = hq_rf k (nI H) := hq_rf_k hkH (by rw [nI_toInt (by omega)]; omega)
    have rT : hq_rf (hq_un k (n + 1) d) (nI T) = hq_rf k (nI T) := hq_rf_k hkH (by rw [nI_toInt (by omega)]; omega)
    refine hq_OC_mk 0 R3 (hz_op (o := o) hs (fun i hi => ?_) (fun q hq => ?_) (fun q hq => ?_)) (hq_ok_u hok (by decide)) (hq_nz_u (by decide)) (fun post h => ?_) (fun post h => ?_)
    · exact ⟨hq_fn (by omega) (by omega) (Or.inl hi), hq_fn (by omega) (by omega) (Or.inl hi), hq_fn (by omega) (by omega) (Or.inl hi)⟩
    · unfold hq_we hq_wd
      rw [hl0, hq_i0]
      exact ⟨decide_eq_false (fun z => by omega), decide_eq_false (fun z => by omega)⟩
    · unfold hq_we hq_wd
      rw [hq_fs, hti]
      exact ⟨decide_eq_false (fun z => by omega), decide_eq_false (fun z => by omega)⟩
    · rw [rH, rT] at h
      refine hx_e9 ht hL64 (by rw [hm_rA R ht, en]; exact n1) hd hpc hk16 ?_ (by rw [hoo]; exact hw) h
      rw [hm_rA R ht, en, hq_rf_n (by omega)]
      exact hq_and15 (by omega) hk16
    · exact hy_e9 ht ho hL64 (by rw [en]; exact n2) h
theorem hs_10 (R : hq_RR k ls ll H T L tm cnt fc lim thr cel cN cX cV cS cO fs hz ph oo rA rB rC m vr pc sR sC rt rn ops lo a b c s0 s1 sp lb fa ow) (hs : hq_sz tm cnt ops sz) (hok : hq_ok ph) (ht : t < 4) (htm : tm + 1 ≤ 1000) (ho : o < 64) (hoo : oo t = nI o) (hp : ph t = 10) : hq_OC t tm cnt lim thr cel sz (fun post => wpX_enqueueStep post (nI fc, hq_rf k (nI H), hq_rf k (nI T), nI L, nI (tm + 1), nI cnt, nI (List.length ll), nI lim, nI thr, cN, cX, cV, cS, cO, fs, hz, ph, oo, rA, rB, rC, m, vr, pc, sR, sC, rt, rn, ops, lo, sz) (nI t) 10) (fun post => wpY_enqueueStep post (nI cel, nI lim, nI thr, nI (tm + 1), nI H, nI T, nI L, nI cnt, ops, ph, a, b, c, m, s0, s1, sp, lb, fa, ow) (nI t) (nI o) 10) := by
  have gSc := R.1
  unfold hq_sc at gSc
  have R1 := hm_tick R htm
  have hP : (ph t).toInt = 10 := by rw [hp]; exact hq_i10
  have hlo := R.2.1 t ht
  rw [hP] at hlo
  have g := hq_LO_g10 hlo
  have hcmp := hm_cA R ht (n := T) (by omega)
  by_cases e : nI T = a t
  · have hai : (a t).toInt = T := by rw [← e, nI_toInt (by omega)]
    have hTL : T + 1 ≤ L := by have := g.2.2; omega
    have hh : hq_hl H L fa T = true := hq_hl_iff.mpr ⟨by omega, Or.inl (by omega)⟩
    have n1 := hm_next (sz := sz) R1 hh
    rw [if_pos (by omega)] at n1
    have R2 := hm_T (T' := T + 1) R1 (by omega) hTL
    have R3 := hm_go (x := 24) R2 ht hP hq_i24 (by omega) (hq_LO_0 (by omega) (hq_LO_rg hlo)) (fun z => by omega) (fun z => by omega)
    have R4 := hm_end (r := 1) (w := nI (tm + 1)) R3 ht (by rw [pk_us]; exact hq_i24) ho hoo (by decide)
    rw [hq_uu (f := ph)] at R4
    exact hq_OC_mk 1 R4 (hz_fin hs) (hq_ok_u hok (by decide)) (fun z => absurd z (by decide))
      (fun post h => hx_e10 ht ho hoo (by rw [hm_rA R ht, ← e]; exact n1) (by rw [if_pos (hcmp.mpr e)]; exact h))
      (fun post h => hy_e10a ht ho e (by rw [← e, nI_1]; exact h))
  · obtain ⟨r, hr⟩ := @hx_nextOf_any (nI fc) (hq_rf k (nI H)) (hq_rf k (nI T)) (nI L) (nI (tm + 1)) (nI cnt) (nI (List.length ll)) (nI lim) (nI thr) cN cX cV cS cO fs hz ph oo rA rB rC m vr pc sR sC rt rn ops lo sz (rA t)
    have R3 := hm_go (x := 24) R1 ht hP hq_i24 (by omega) (hq_LO_0 (by omega) (hq_LO_rg hlo)) (fun z => by omega) (fun z => by omega)
    have R4 := hm_end (r := 1) (w := nI (tm + 1)) R3 ht (by rw [pk_us]; exact hq_i24) ho hoo (by decide)
    rw [hq_uu (f := ph)] at R4
    exact hq_OC_mk 1 R4 (hz_fin hs) (hq_ok_u hok (by decide)) (fun z => absurd z (by decide))
      (fun post h => hx_e10 ht ho hoo hr (by rw [if_neg (fun z => e (hcmp.mp z))]; exact h))
      (fun post h => hy_e10b ht ho e h)
end
end
section
/-! the dequeue's steps, both sides -/
theorem hq_li_congr {ll : List Nat} {cnt : Nat} {ops ops' lo : Nat → Int32} (h : hq_li ll cnt ops lo) (h5 : ∀ i, hq_f ops' i 5 = hq_f ops i 5) : hq_li ll cnt ops' lo := by
  obtain ⟨e1, e2, e3⟩ := h
  refine ⟨e1, ?_, fun i => by rw [e3 i, h5 i]⟩
  refine List.Pairwise.imp_of_mem ?_ e2
  intro i j hi hj hij
  rw [h5, h5]
  exact hij
section
variable {k : Nat → Nat} {ls : Nat → List Nat} {ll : List Nat} {H T L tm cnt fc lim thr cel : Nat} {cN cX cV cS cO fs hz ph oo rA rB rC m vr pc sR sC rt rn ops lo a b c s0 s1 sp lb fa ow : Nat → Int32} {sz : Nat → Int32} {t o : Nat} {x : Int32}
theorem hs_11 (R : hq_RR k ls ll H T L tm cnt fc lim thr cel cN cX cV cS cO fs hz ph oo rA rB rC m vr pc sR sC rt rn ops lo a b c s0 s1 sp lb fa ow) (hs : hq_sz tm cnt ops sz) (hok : hq_ok ph) (ht : t < 4) (htm : tm + 1 ≤ 1000) (ho : o < 64) (hoo : oo t = nI o) (hp : ph t = 11) : hq_OC t tm cnt lim thr cel sz (fun post => wpX_dequeueStep post (nI fc, hq_rf k (nI H), hq_rf k (nI T), nI L, nI (tm + 1), nI cnt, nI (List.length ll), nI lim, nI thr, cN, cX, cV, cS, cO, fs, hz, ph, oo, rA, rB, rC, m, vr, pc, sR, sC, rt, rn, ops, lo, sz) (nI t) 11) (fun post => wpY_dequeueStep post (nI cel, nI lim, nI thr, nI (tm + 1), nI H, nI T, nI L, nI cnt, ops, ph, a, b, c, m, s0, s1, sp, lb, fa, ow) (nI t) (nI o) 11) := by
  have gSc := R.1
  unfold hq_sc at gSc
  have R1 := hm_tick R htm
  have hP : (ph t).toInt = 11 := by rw [hp]; exact hq_i11
  have rg := hq_LO_rg (R.2.1 t ht)
  have hT : (nI H).toInt = H := nI_toInt (by omega)
  have R2 := hm_a (x := nI H) R1 ht (hq_LO_0 (by omega) (by rw [hT]; omega)) (by omega) (by omega)
  have R3 := hm_go (x := 12) R2 ht hP hq_i12 (by omega) (by rw [pk_us, hT]; exact hq_LO_12 (by omega) (by omega)) (fun z => by omega) (fun z => by omega)
  exact hq_OC_mk 0 R3 hs (hq_ok_u hok (by decide)) (hq_nz_u (by decide)) (fun post h => hx_d11 ht h) (fun post h => hy_d11 ht h)
theorem hs_12 (R : hq_RR k ls ll H T L tm cnt fc lim thr cel cN cX cV cS cO fs hz ph oo rA rB rC m vr pc sR sC rt rn ops lo a b c s0 s1 sp lb fa ow) (hs : hq_sz tm cnt ops sz) (hok : hq_ok ph) (ht : t < 4) (htm : tm + 1 ≤ 1000) (ho : o < 64) (hoo : oo t = nI o) (hp : ph t = 12) : hq_OC t tm cnt lim thr cel sz (fun post => wpX_dequeueStep post (nI fc, hq_rf k (nI H), hq_rf k (nI T), nI L, nI (tm + 1), nI cnt, nI (List.length ll), nI lim, nI thr, cN, cX, cV, cS, cO, fs, hz, ph, oo, rA, rB, rC, m, vr, pc, sR, sC, rt, rn, ops, lo, sz) (nI t) 12) (fun post => wpY_dequeueStep post (nI cel, nI lim, nI thr, nI (tm + 1), nI H, nI T, nI L, nI cnt, ops, ph, a, b, c, m, s0, s1, sp, lb, fa, ow) (nI t) (nI o) 12) := by
  have R1 := hm_tick R htm
  have hP : (ph t).toInt = 12 := by rw [hp]; exact hq_i12
  have hlo := R.2.1 t ht
  rw [hP] at hlo
  have g := hq_LO_g12 hlo
  have rg := hq_LO_rg hlo
  have R2 := hm_s0 (x := a t) R1 ht (by rw [hP]; exact hq_LO_12 (by omega) g)
  have R3 := hm_go (x := 13) R2 ht hP hq_i13 (by omega) (by rw [pk_us]; exact hq_LO_13 (by omega) g rfl) (fun z => by omega) (fun z => by omega)
  exact hq_OC_mk 0 R3 hs (hq_ok_u hok (by decide)) (hq_nz_u (by decide)) (fun post h => hx_d12 ht (by rw [hm_rA R ht]; exact h)) (fun post h => hy_d12 ht h)
theorem hs_13 (R : hq_RR k ls ll H T L tm cnt fc lim thr cel cN cX cV cS cO fs hz ph oo rA rB rC m vr pc sR sC rt rn ops lo a b c s0 s1 sp lb fa ow) (hs : hq_sz tm cnt ops sz) (hok : hq_ok ph) (ht : t < 4) (htm : tm + 1 ≤ 1000) (ho : o < 64) (hoo : oo t = nI o) (hp : ph t = 13) : hq_OC t tm cnt lim thr cel sz (fun post => wpX_dequeueStep post (nI fc, hq_rf k (nI H), hq_rf k (nI T), nI L, nI (tm + 1), nI cnt, nI (List.length ll), nI lim, nI thr, cN, cX, cV, cS, cO, fs, hz, ph, oo, rA, rB, rC, m, vr, pc, sR, sC, rt, rn, ops, lo, sz) (nI t) 13) (fun post => wpY_dequeueStep post (nI cel, nI lim, nI thr, nI (tm + 1), nI H, nI T, nI L, nI cnt, ops, ph, a, b, c, m, s0, s1, sp, lb, fa, ow) (nI t) (nI o) 13) := by
  have gSc := R.1
  unfold hq_sc at gSc
  have R1 := hm_tick R htm
  have hP : (ph t).toInt = 13 := by rw [hp]; exact hq_i13
  have hlo := R.2.1 t ht
  rw [hP] at hlo
  have g := hq_LO_g13 hlo
  have hcmp := hm_cA R ht (n := H) (by omega)
  by_cases e : nI H = a t
  · have R3 := hm_go (x := 14) R1 ht hP hq_i14 (by omega) (hq_LO_14 (hq_LO_rg hlo) g.1 g.2) (fun _ n hn en => hm_lin R (by
      rw [← e, nI_eq (by omega) (by omega)] at en; omega) hn) (fun z => by omega)
    exact hq_OC_mk 0 R3 hs (hq_ok_u hok (by decide)) (hq_nz_u (by decide)) (fun post h => hx_d13a ht (hcmp.mpr e) h) (fun post h => hy_d13a ht e h)
  · have R3 := hm_go (x := 11) R1 ht hP hq_i11 (by omega) (hq_LO_0 (by omega) (hq_LO_rg hlo)) (fun z => by omega) (fun z => by omega)
    exact hq_OC_mk 0 R3 hs (hq_ok_u hok (by decide)) (hq_nz_u (by decide)) (fun post h => hx_d13b ht (fun z => e (hcmp.mp z)) h) (fun post h => hy_d13b ht e h)
theorem hs_14 (R : hq_RR k ls ll H T L tm cnt fc lim thr cel cN cX cV cS cO fs hz ph oo rA rB rC m vr pc sR sC rt rn ops lo a b c s0 s1 sp lb fa ow) (hs : hq_sz tm cnt ops sz) (hok : hq_ok ph) (ht : t < 4) (htm : tm + 1 ≤ 1000) (ho : o < 64) (hoo : oo t = nI o) (hp : ph t = 14) : hq_OC t tm cnt lim thr cel sz (fun post => wpX_dequeueStep post (nI fc, hq_rf k (nI H), hq_rf k (nI T), nI L, nI (tm + 1), nI cnt, nI (List.length ll), nI lim, nI thr, cN, cX, cV, cS, cO, fs, hz, ph, oo, rA, rB, rC, m, vr, pc, sR, sC, rt, rn, ops, lo, sz) (nI t) 14) (fun post => wpY_dequeueStep post (nI cel, nI lim, nI thr, nI (tm + 1), nI H, nI T, nI L, nI cnt, ops, ph, a, b, c, m, s0, s1, sp, lb, fa, ow) (nI t) (nI o) 14) := by
  have gSc := R.1
  unfold hq_sc at gSc
  have R1 := hm_tick R htm
  have hP : (ph t).toInt = 14 := by rw [hp]; exact hq_i14
  have hlo := R.2.1 t ht
  rw [hP] at hlo
  have g := hq_LO_g14 hlo
  have rg := hq_LO_rg hlo
  have hT : (nI T).toInt = T := nI_toInt (by omega)
  have R2 := hm_b (x := nI T) R1 ht (by rw [hP, hT]; exact hq_LO_14 (by omega) g.1 g.2)
  have R3 := hm_go (x := 15) R2 ht hP hq_i15 (by omega) (by rw [pk_us, hT]; exact hq_LO_15 (by omega) g.1 g.2 (by omega)) (fun _ q hq eq => (R.2.2.2.2.2.2.2.2.2.1 t ht).1 (by omega) q hq eq) (fun z => by omega)
  exact hq_OC_mk 0 R3 hs (hq_ok_u hok (by decide)) (hq_nz_u (by decide)) (fun post h => hx_d14 ht h) (fun post h => hy_d14 ht h)
theorem hs_15 (R : hq_RR k ls ll H T L tm cnt fc lim thr cel cN cX cV cS cO fs hz ph oo rA rB rC m vr pc sR sC rt rn ops lo a b c s0 s1 sp lb fa ow) (hs : hq_sz tm cnt ops sz) (hok : hq_ok ph) (ht : t < 4) (htm : tm + 1 ≤ 1000) (ho : o < 64) (hoo : oo t = nI o) (hp : ph t = 15) : hq_OC t tm cnt lim thr cel sz (fun post => wpX_dequeueStep post (nI fc, hq_rf k (nI H), hq_rf k (nI T), nI L, nI (tm + 1), nI cnt, nI (List.length ll), nI lim, nI thr, cN, cX, cV, cS, cO, fs, hz, ph, oo, rA, rB, rC, m, vr, pc, sR, sC, rt, rn, ops, lo, sz) (nI t) 15) (fun post => wpY_dequeueStep post (nI cel, nI lim, nI thr, nI (tm + 1), nI H, nI T, nI L, nI cnt, ops, ph, a, b, c, m, s0, s1, sp, lb, fa, ow) (nI t) (nI o) 15) := by
  have gSc := R.1
  unfold hq_sc at gSc
  have R1 := hm_tick R htm
  have hP : (ph t).toInt = 15 := by rw [hp]; exact hq_i15
  have hlo := R.2.1 t ht
  rw [hP] at hlo
  have g := hq_LO_g15 hlo
  have rg := hq_LO_rg hlo
  obtain ⟨n, hn, en, hh⟩ := hm_guard R ht (by omega)
  obtain ⟨fr1, fr2⟩ := hm_fresh R
  have hni : (a t).toInt = n := by rw [en, nI_toInt (by omega)]
  have hti : (nI (tm + 1)).toInt = ((tm + 1 : Nat) : Int) := nI_toInt (by omega)
  have hr : (if n < L then nI (n + 1) else -1 : Int32).toInt = -1 ∨ ((if n < L then nI (n + 1) else -1 : Int32).toInt = (a t).toInt + 1 ∧ n < L) := by
    by_cases q : n < L
    · rw [if_pos q, nI_toInt (by omega)]; right; omega
    · rw [if_neg q, hq_im1]; left; rfl
  have R2 := hm_c (x := if n < L then nI (n + 1) else -1) R1 ht (by rw [hP]; exact hq_LO_15 (by omega) g.1 g.2.1 g.2.2) (by omega) (by omega)
  have R3 := hm_m (x := nI (tm + 1)) R2 ht (by rw [hP, pk_us]; exact hq_LO_15 (by omega) g.1 g.2.1 g.2.2) (by rw [hti]; omega)
    (fun _ i hi z => by have := fr1 i hi; rw [z, hti] at this; omega) (fun _ s hs _ z => by have := fr2 s hs; rw [z, hti] at this; omega)
  have R4 := hm_go (x := 16) R3 ht hP hq_i16 (by omega) (by rw [pk_us, pk_us, hti]; exact hq_LO_16 (by omega) g.1 g.2.1 g.2.2 (by omega)) (fun z => by omega) (fun z => by omega)
  exact hq_OC_mk 0 R4 hs (hq_ok_u hok (by decide)) (hq_nz_u (by decide)) (fun post h => hx_d15 ht (by rw [hm_rA R ht, en]; exact hm_next R1 hh) h) (fun post h => hy_d15 ht (by rw [en]; exact hm_nextY R1 hn) h)
theorem hs_16 (R : hq_RR k ls ll H T L tm cnt fc lim thr cel cN cX cV cS cO fs hz ph oo rA rB rC m vr pc sR sC rt rn ops lo a b c s0 s1 sp lb fa ow) (hs : hq_sz tm cnt ops sz) (hok : hq_ok ph) (ht : t < 4) (htm : tm + 1 ≤ 1000) (ho : o < 64) (hoo : oo t = nI o) (hp : ph t = 16) : hq_OC t tm cnt lim thr cel sz (fun post => wpX_dequeueStep post (nI fc, hq_rf k (nI H), hq_rf k (nI T), nI L, nI (tm + 1), nI cnt, nI (List.length ll), nI lim, nI thr, cN, cX, cV, cS, cO, fs, hz, ph, oo, rA, rB, rC, m, vr, pc, sR, sC, rt, rn, ops, lo, sz) (nI t) 16) (fun post => wpY_dequeueStep post (nI cel, nI lim, nI thr, nI (tm + 1), nI H, nI T, nI L, nI cnt, ops, ph, a, b, c, m, s0, s1, sp, lb, fa, ow) (nI t) (nI o) 16) := by
  have R1 := hm_tick R htm
  have hP : (ph t).toInt = 16 := by rw [hp]; exact hq_i16
  have hlo := R.2.1 t ht
  rw [hP] at hlo
  have g := hq_LO_g16 hlo
  have rg := hq_LO_rg hlo
  have R2 := hm_s1 (x := c t) R1 ht (by rw [hP]; exact hq_LO_16 (by omega) g.1 g.2.1 g.2.2.1 g.2.2.2)
  have R3 := hm_go (x := 17) R2 ht hP hq_i17 (by omega) (by rw [pk_us]; exact hq_LO_17 (by omega) g.1 g.2.1 g.2.2.1 g.2.2.2 rfl) (fun z => by omega) (fun z => by omega)
  exact hq_OC_mk 0 R3 hs (hq_ok_u hok (by decide)) (hq_nz_u (by decide)) (fun post h => hx_d16 ht (by rw [hm_rC R ht]; exact h)) (fun post h => hy_d16 ht h)
theorem hs_17 (R : hq_RR k ls ll H T L tm cnt fc lim thr cel cN cX cV cS cO fs hz ph oo rA rB rC m vr pc sR sC rt rn ops lo a b c s0 s1 sp lb fa ow) (hs : hq_sz tm cnt ops sz) (hok : hq_ok ph) (ht : t < 4) (htm : tm + 1 ≤ 1000) (ho : o < 64) (hoo : oo t = nI o) (hp : ph t = 17) : hq_OC t tm cnt lim thr cel sz (fun post => wpX_dequeueStep post (nI fc, hq_rf k (nI H), hq_rf k (nI T), nI L, nI (tm + 1), nI cnt, nI (List.length ll), nI lim, nI thr, cN, cX, cV, cS, cO, fs, hz, ph, oo, rA, rB, rC, m, vr, pc, sR, sC, rt, rn, ops, lo, sz) (nI t) 17) (fun post => wpY_dequeueStep post (nI cel, nI lim, nI thr, nI (tm + 1), nI H, nI T, nI L, nI cnt, ops, ph, a, b, c, m, s0, s1, sp, lb, fa, ow) (nI t) (nI o) 17) := by
  have gSc := R.1
  unfold hq_sc at gSc
  have R1 := hm_tick R htm
  have hP : (ph t).toInt = 17 := by rw [hp]; exact hq_i17
  have hlo := R.2.1 t ht
  rw [hP] at hlo
  obtain ⟨g1, g2, g3, g4, g5⟩ := hq_LO_g17 hlo
  have rg := hq_LO_rg hlo
  have hcmp := hm_cA R ht (n := H) (by omega)
  by_cases e : nI H = a t
  · have hai : (a t).toInt = H := by rw [← e, nI_toInt (by omega)]
    by_cases e2 : c t = -1
    · obtain ⟨hoc, hob⟩ := hm_o R ht (by omega) ho hoo
      rw [hP] at hob
      have hl0 : hq_f ops o 5 = 0 := (hob.2.2.2.2.2.2.1 (by omega) (by omega)).1
      have hv1 : hq_f ops o 2 = -1 := (hob.2.2.2.2.2.2.1 (by omega) (by omega)).2
      have hk2 : hq_f ops o 0 = 2 := hob.2.2.2.2.1 (by omega) (by omega)
      have hm0 : m t ≠ 0 := hq_ne (by rw [hq_i0]; omega)
      obtain ⟨l1, l2, l3, l4, hli⟩ := R.2.2.2.2.2.2.2.2.2.2.2.2.1
      obtain ⟨ll', lo', hli', hw⟩ := @hx_linearise (nI fc) (hq_rf k (nI H)) (hq_rf k (nI T)) (nI L) (nI (tm + 1)) (nI cnt) (nI lim) (nI thr) cN cX cV cS cO fs hz ph oo rA rB rC m vr pc sR sC rt rn ops lo sz o (m t) ll cnt hli (by omega) hoc hl0 hm0 (l4 t ht hm0).1
      have R2 := hm_empty R1 ht hP ho hoo hli'
      have R3 := hm_end (r := 2) (w := nI (tm + 1)) R2 ht (by rw [pk_us]; exact hq_i24) ho hoo (by decide)
      rw [hq_uu (f := ph), hq_uu (f := m)] at R3
      refine hq_OC_mk 2 R3 (hz_fin (hz_op (o := o) hs (fun i hi => ?_) (fun q hq => ?_) (fun q hq => ?_))) (hq_ok_u hok (by decide)) (fun z => absurd z (by decide))
        (fun post h => hx_d17d ht ho hoo (hcmp.mpr e) ((hm_cC R ht).mpr e2) (by rw [hoo]; exact hw) h) (fun post h => hy_d17d ht ho e e2 h)
      · exact ⟨hq_fn (by omega) (by omega) (Or.inl hi), hq_fn (by omega) (by omega) (Or.inl hi), hq_fn (by omega) (by omega) (Or.inl hi)⟩
      · unfold hq_we hq_wd
        rw [hk2, hv1]
        exact ⟨decide_eq_false (fun z => absurd z.1 (by decide)), decide_eq_false (fun z => absurd rfl z.2.1)⟩
      · unfold hq_we hq_wd
        rw [hq_fn (by omega) (by omega) (Or.inr (by omega)), hq_fn (g := 2) (by omega) (by omega) (Or.inr (by omega)), hk2, hv1]
        exact ⟨decide_eq_false (fun z => absurd z.1 (by decide)), decide_eq_false (fun z => absurd rfl z.2.1)⟩
    · have hc1 : (c t).toInt ≠ -1 := fun z => e2 (hq_inj (by rw [z, hq_im1]))
      have hc2 := g4.2.resolve_left hc1
      by_cases e3 : a t = b t
      · have R3 := hm_go (x := 18) R1 ht hP hq_i18 (by omega) (hq_LO_18 rg g1 g2 g3 g4 hc2 g5 (by rw [e3])) (fun z => by omega) (fun z => by omega)
        exact hq_OC_mk 0 R3 hs (hq_ok_u hok (by decide)) (hq_nz_u (by decide)) (fun post h => hx_d17b ht (hcmp.mpr e) (fun z => e2 ((hm_cC R ht).mp z)) ((hm_cAB R ht).mpr e3) h) (fun post h => hy_d17b ht e e2 e3 h)
      · have hab : (a t).toInt ≠ (b t).toInt := fun z => e3 (hq_inj z)
        have R3 := hm_go (x := 19) R1 ht hP hq_i19 (by omega) (hq_LO_19 rg g1 g2 g3 g4 hc2 g5 (by omega)) (fun z => by omega) (fun _ n hn en => hm_lin R (by
          have : (c t).toInt = n := by rw [en, nI_toInt (by omega)]
          omega) hn)
        exact hq_OC_mk 0 R3 hs (hq_ok_u hok (by decide)) (hq_nz_u (by decide)) (fun post h => hx_d17c ht (hcmp.mpr e) (fun z => e2 ((hm_cC R ht).mp z)) (fun z => e3 ((hm_cAB R ht).mp z)) h) (fun post h => hy_d17c ht e e2 e3 h)
  · have R3 := hm_go (x := 11) R1 ht hP hq_i11 (by omega) (hq_LO_0 (by omega) rg) (fun z => by omega) (fun z => by omega)
    exact hq_OC_mk 0 R3 hs (hq_ok_u hok (by decide)) (hq_nz_u (by decide)) (fun post h => hx_d17a ht (fun z => e (hcmp.mp z)) h) (fun post h => hy_d17a ht e h)
theorem hs_18 (R : hq_RR k ls ll H T L tm cnt fc lim thr cel cN cX cV cS cO fs hz ph oo rA rB rC m vr pc sR sC rt rn ops lo a b c s0 s1 sp lb fa ow) (hs : hq_sz tm cnt ops sz) (hok : hq_ok ph) (ht : t < 4) (htm : tm + 1 ≤ 1000) (ho : o < 64) (hoo : oo t = nI o) (hp : ph t = 18) : hq_OC t tm cnt lim thr cel sz (fun post => wpX_dequeueStep post (nI fc, hq_rf k (nI H), hq_rf k (nI T), nI L, nI (tm + 1), nI cnt, nI (List.length ll), nI lim, nI thr, cN, cX, cV, cS, cO, fs, hz, ph, oo, rA, rB, rC, m, vr, pc, sR, sC, rt, rn, ops, lo, sz) (nI t) 18) (fun post => wpY_dequeueStep post (nI cel, nI lim, nI thr, nI (tm + 1), nI H, nI T, nI L, nI cnt, ops, ph, a, b, c, m, s0, s1, sp, lb, fa, ow) (nI t) (nI o) 18) := by
  have gSc := R.1
  unfold hq_sc at gSc
  have R1 := hm_tick R htm
  have hP : (ph t).toInt = 18 := by rw [hp]; exact hq_i18
  have hlo := R.2.1 t ht
  rw [hP] at hlo
  obtain ⟨g1, g2, g3, g4, g5, g6, g7⟩ := hq_LO_g18 hlo
  have rg := hq_LO_rg hlo
  have hcmp := hm_cB R ht (n := T) (by omega)
  by_cases e : nI T = b t
  · have hbi : (b t).toInt = T := by rw [← e, nI_toInt (by omega)]
    have hTL : T + 1 ≤ L := by omega
    have hc : c t = nI (T + 1) := hq_inj (by rw [nI_toInt (by omega)]; omega)
    have R2 := hm_T (T' := T + 1) R1 (by omega) hTL
    have R3 := hm_go (x := 11) R2 ht hP hq_i11 (by omega) (hq_LO_0 (by omega) rg) (fun z => by omega) (fun z => by omega)
    exact hq_OC_mk 0 R3 hs (hq_ok_u hok (by decide)) (hq_nz_u (by decide)) (fun post h => hx_d18 ht (by rw [if_pos (hcmp.mpr e), hm_rC R ht, hc]; exact h)) (fun post h => hy_d18a ht e (by rw [hc]; exact h))
  · have R3 := hm_go (x := 11) R1 ht hP hq_i11 (by omega) (hq_LO_0 (by omega) rg) (fun z => by omega) (fun z => by omega)
    exact hq_OC_mk 0 R3 hs (hq_ok_u hok (by decide)) (hq_nz_u (by decide)) (fun post h => hx_d18 ht (by rw [if_neg (fun z => e (hcmp.mp z))]; exact h)) (fun post h => hy_d18b ht e h)
theorem hs_19 (R : hq_RR k ls ll H T L tm cnt fc lim thr cel cN cX cV cS cO fs hz ph oo rA rB rC m vr pc sR sC rt rn ops lo a b c s0 s1 sp lb fa ow) (hs : hq_sz tm cnt ops sz) (hok : hq_ok ph) (ht : t < 4) (htm : tm + 1 ≤ 1000) (ho : o < 64) (hoo : oo t = nI o) (hp : ph t = 19) : hq_OC t tm cnt lim thr cel sz (fun post => wpX_dequeueStep post (nI fc, hq_rf k (nI H), hq_rf k (nI T), nI L, nI (tm + 1), nI cnt, nI (List.length ll), nI lim, nI thr, cN, cX, cV, cS, cO, fs, hz, ph, oo, rA, rB, rC, m, vr, pc, sR, sC, rt, rn, ops, lo, sz) (nI t) 19) (fun post => wpY_dequeueStep post (nI cel, nI lim, nI thr, nI (tm + 1), nI H, nI T, nI L, nI cnt, ops, ph, a, b, c, m, s0, s1, sp, lb, fa, ow) (nI t) (nI o) 19) := by
  have gSc := R.1
  unfold hq_sc at gSc
  have R1 := hm_tick R htm
  have hP : (ph t).toInt = 19 := by rw [hp]; exact hq_i19
  have hlo := R.2.1 t ht
  rw [hP] at hlo
  obtain ⟨g1, g2, g3, g4, g5, g6, g7⟩ := hq_LO_g19 hlo
  have rg := hq_LO_rg hlo
  obtain ⟨n, hn, en⟩ := hq_nle (N := L) (show 0 ≤ (c t).toInt by omega) rg.2.2.1.2
  have hni : (c t).toInt = n := by rw [en, nI_toInt (by omega)]
  have hh := ((R.2.2.2.2.2.2.2.2.2.1 t ht).2 hP n hn en).1
  have hk16 : k n < 16 := R.2.2.1.1 n hn
  have hval := (R.2.2.2.1.1 n hh).2.2.2 (by omega)
  have R2 := hm_v (x := cV (k n)) R1 ht (by omega)
  have hsn : hq_SN (ph t).toInt (sC t).toInt := (R.2.2.2.2.2.2.2.2.2.2.1 t ht).1
  have R3 := hm_ph (x := 20) R2 ht (by omega) (by decide) (by rw [hq_i20]; exact hq_LO_20 rg g1 g2 g3 g4 g5 g6 g7) (by rw [hq_i20]; omega) (fun z => by rw [hq_i20] at z; omega) (fun z => by rw [hq_i20] at z; omega)
    (by rw [hq_i20]; unfold hq_SN at hsn ⊢; omega)
    (fun q hq eq => by
      rw [hq_i20]
      refine hq_OB_tr (hm_o R ht (by omega) (by omega) eq).2 ?_ ?_ ?_ ?_ ?_ <;> omega)
    (by decide)
    (fun _ q hq eq => by
      rw [en, nI_eq (by omega) (by omega)] at eq
      subst eq
      rw [pk_us]
      exact hval)
  exact hq_OC_mk 0 R3 hs (hq_ok_u hok (by decide)) (hq_nz_u (by decide)) (fun post h => hx_d19 ht hk16 (by rw [hm_rC R ht, en, hq_rf_n (by omega)]; exact hq_and15 (by omega) hk16) h) (fun post h => hy_d19 ht h)
theorem hs_20 (R : hq_RR k ls ll H T L tm cnt fc lim thr cel cN cX cV cS cO fs hz ph oo rA rB rC m vr pc sR sC rt rn ops lo a b c s0 s1 sp lb fa ow) (hs : hq_sz tm cnt ops sz) (hok : hq_ok ph) (ht : t < 4) (htm : tm + 1 ≤ 1000) (ho : o < 64) (hoo : oo t = nI o) (hp : ph t = 20) : hq_OC t tm cnt lim thr cel sz (fun post => wpX_dequeueStep post (nI fc, hq_rf k (nI H), hq_rf k (nI T), nI L, nI (tm + 1), nI cnt, nI (List.length ll), nI lim, nI thr, cN, cX, cV, cS, cO, fs, hz, ph, oo, rA, rB, rC, m, vr, pc, sR, sC, rt, rn, ops, lo, sz) (nI t) 20) (fun post => wpY_dequeueStep post (nI cel, nI lim, nI thr, nI (tm + 1), nI H, nI T, nI L, nI cnt, ops, ph, a, b, c, m, s0, s1, sp, lb, fa, ow) (nI t) (nI o) 20) := by
  have gSc := R.1
  unfold hq_sc at gSc
  have R1 := hm_tick R htm
  have hP : (ph t).toInt = 20 := by rw [hp]; exact hq_i20
  have hlo := R.2.1 t ht
  rw [hP] at hlo
  obtain ⟨g1, g2, g3, g4, g5, g6, g7⟩ := hq_LO_g20 hlo
  have rg := hq_LO_rg hlo
  have hcmp := hm_cA R ht (n := H) (by omega)
  by_cases e : nI H = a t
  · have hai : (a t).toInt = H := by rw [← e, nI_toInt (by omega)]
    have hc : c t = nI (H + 1) := hq_inj (by rw [nI_toInt (by omega)]; omega)
    obtain ⟨hoc, hob⟩ := hm_o R ht (by omega) ho hoo
    rw [hP] at hob
    have hl0 : hq_f ops o 5 = 0 := (hob.2.2.2.2.2.2.1 (by omega) (by omega)).1
    obtain ⟨fr1, fr2⟩ := hm_fresh R
    have hti : (nI (tm + 1)).toInt = ((tm + 1 : Nat) : Int) := nI_toInt (by omega)
    have htm0 : nI (tm + 1) ≠ 0 := nI_ne0 (by omega) (by omega)
    have hli := R.2.2.2.2.2.2.2.2.2.2.2.2.1.2.2.2.2
    have f5 : ∀ i, hq_f (upd ops (7 * o + 2) (vr t)) i 5 = hq_f ops i 5 := fun i => hq_fn (by omega) (by omega) (Or.inr (by omega))
    have hk16 : k H < 16 := R.2.2.1.1 H (by omega)
    obtain ⟨ll', lo', hli', hw⟩ := @hx_linearise (nI fc) (rC t) (hq_rf k (nI T)) (nI L) (nI (tm + 1)) (nI cnt) (nI lim) (nI thr) cN cX cV (upd cS (k H) 2) (upd cO (k H) (nI t)) fs hz ph oo rA rB rC m vr pc sR sC rt rn (upd ops (7 * o + 2) (vr t)) lo sz o (nI (tm + 1)) ll cnt (hq_li_congr hli f5) (by omega) hoc (by rw [f5]; exact hl0) htm0 (fun i hi z => by
      have := fr1 i hi
      rw [f5] at z
      rw [z, hti] at this
      omega)
    have R3 := hm_swap R1 ht hP ho hoo e.symm rfl fr1 fr2 hli'
    have hvr : vr t = hq_vl ops lb (H + 1) := R.2.2.2.2.2.2.2.2.2.2.2.2.2.2.2 t ht hP (H + 1) (by omega) hc
    obtain ⟨q, hq, elb, _⟩ := R.2.2.2.2.1 (H + 1) (by omega) (by omega)
    refine hq_OC_mk 0 R3 (hz_op (o := o) hs (fun i hi => ?_) (fun q hq => ?_) (fun q hq => ?_)) (hq_ok_u hok (by decide)) (hq_nz_u (by decide)) (fun post h => ?_) (fun post h => ?_)
    · exact ⟨by rw [hq_fn (by omega) (by omega) (Or.inl hi), hq_fn (by omega) (by omega) (Or.inl hi)], by rw [hq_fn (by omega) (by omega) (Or.inl hi), hq_fn (by omega) (by omega) (Or.inl hi)], by rw [hq_fn (by omega) (by omega) (Or.inl hi), hq_fn (by omega) (by omega) (Or.inl hi)]⟩
    · unfold hq_we hq_wd
      rw [hl0, hq_i0]
      exact ⟨decide_eq_false (fun z => by omega), decide_eq_false (fun z => by omega)⟩
    · unfold hq_we hq_wd
      rw [hq_fs, hti]
      exact ⟨decide_eq_false (fun z => by omega), decide_eq_false (fun z => by omega)⟩
    · refine hx_d20b ht ho hoo (hcmp.mpr e) hk16 ?_ hw ?_
      · rw [hm_rA R ht, ← e, hq_rf_n (by omega)]
        exact hq_and15 (by omega) hk16
      · rw [hm_rC R ht, hc]
        exact h
    · rw [hvr] at h
      exact hy_d20b ht ho e (by omega) (by omega) e.symm hc (by omega) elb h
  · have R3 := hm_go (x := 11) R1 ht hP hq_i11 (by omega) (hq_LO_0 (by omega) rg) (fun z => by omega) (fun z => by omega)
    exact hq_OC_mk 0 R3 hs (hq_ok_u hok (by decide)) (hq_nz_u (by decide)) (fun post h => hx_d20a ht (fun z => e (hcmp.mp z)) h) (fun post h => hy_d20a ht e h)
/-- from phase 24 on to a scan or an allocation -/
theorem hm_24 {P' : Int} (R : hq_RR k ls ll H T L tm cnt fc lim thr cel cN cX cV cS cO fs hz ph oo rA rB rC m vr pc sR sC rt rn ops lo a b c s0 s1 sp lb fa ow) (ht : t < 4) (h24 : (ph t).toInt = 24) (ho : o < 64) (hoo : oo t = nI o) (e' : x.toInt = P')
    (hc : (P' = 22 ∧ hq_f ops o 0 ≠ 1) ∨ (P' = 2 ∧ hq_f ops o 0 = 1 ∧ hq_f ops o 5 = 0)) : hq_RR k ls ll H T L tm cnt fc lim thr cel cN cX cV cS cO fs hz (upd ph t x) oo rA rB rC m vr pc sR sC rt rn ops lo a b c s0 s1 sp lb fa ow := by
  have hlo := hq_LO_rg (R.2.1 t ht)
  have hsn : hq_SN (ph t).toInt (sC t).toInt := (R.2.2.2.2.2.2.2.2.2.2.1 t ht).1
  have gSc := R.1
  unfold hq_sc at gSc
  have hP : P' = 22 ∨ P' = 2 := by omega
  obtain ⟨hoc, hob⟩ := hm_o R ht (by omega) ho hoo
  subst e'
  refine hm_ph R ht (by omega) (by omega) (hq_LO_0 (by omega) hlo) (by omega) (fun z => by omega) (fun z => by omega) ?_ (fun q hq eq => ?_) (by omega) (fun z => by omega)
  · unfold hq_SN at hsn ⊢; omega
  · rw [hoo, nI_eq (by omega) (by omega)] at eq
    subst eq
    obtain ⟨q1, q2, q3, q4, q5, q6, q7, q8⟩ := hob
    rcases hc with ⟨w1, w2⟩ | ⟨w1, w2, w3⟩
    · exact ⟨q1, q2, q3, fun z => by omega, fun _ z => by omega, fun z => by omega, fun _ z => by omega, fun _ _ z => absurd z w2⟩
    · exact ⟨q1, q2, q3, fun _ => w2, fun z => by omega, fun _ => w3, fun z => by omega, fun z => by omega⟩
theorem hs_21 (R : hq_RR k ls ll H T L tm cnt fc lim thr cel cN cX cV cS cO fs hz ph oo rA rB rC m vr pc sR sC rt rn ops lo a b c s0 s1 sp lb fa ow) (hs : hq_sz tm cnt ops sz) (hok : hq_ok ph) (ht : t < 4) (htm : tm + 1 ≤ 1000) (ho : o < 64) (hoo : oo t = nI o) (hp : ph t = 21) : hq_OC t tm cnt lim thr cel sz (fun post => wpX_dequeueStep post (nI fc, hq_rf k (nI H), hq_rf k (nI T), nI L, nI (tm + 1), nI cnt, nI (List.length ll), nI lim, nI thr, cN, cX, cV, cS, cO, fs, hz, ph, oo, rA, rB, rC, m, vr, pc, sR, sC, rt, rn, ops, lo, sz) (nI t) 21) (fun post => wpY_dequeueStep post (nI cel, nI lim, nI thr, nI (tm + 1), nI H, nI T, nI L, nI cnt, ops, ph, a, b, c, m, s0, s1, sp, lb, fa, ow) (nI t) (nI o) 21) := by
  have gSc := R.1
  unfold hq_sc at gSc
  have R1 := hm_tick R htm
  have hP : (ph t).toInt = 21 := by rw [hp]; exact hq_i21
  have hlo := R.2.1 t ht
  rw [hP] at hlo
  have g := hq_LO_g21 hlo
  have rg := hq_LO_rg hlo
  obtain ⟨n, hn, en⟩ := hq_nle (N := L) g.1 rg.1.2
  have hk16 : k n < 16 := R.2.2.1.1 n hn
  obtain ⟨hoc, hob⟩ := hm_o R ht (by omega) ho hoo
  rw [hP] at hob
  have hk2 : hq_f ops o 0 = 2 := hob.2.2.2.2.1 (by omega) (by omega)
  have hlen := (hm_len R ht).1
  have hrn : rn t = nI (ls t).length := (R.2.2.2.2.2.2.2.2.1 t ht).2.2.1
  have R2 := hm_retire R1 ht hP (by omega) en
  have hcn := (hm_len R2 ht).2
  rw [hq_ul_s, List.length_append, List.length_singleton] at hcn
  have h24 : (upd ph t 24 t).toInt = 24 := by rw [pk_us]; exact hq_i24
  have hand : rA t &&& 15 = nI (k n) := by rw [hm_rA R ht, en, hq_rf_n (by omega)]; exact hq_and15 (by omega) hk16
  by_cases e : thr ≤ (ls t).length + 1
  · have R3 := hm_24 (x := 22) (hm_forget R2 ht h24) ht h24 ho hoo hq_i22 (Or.inl ⟨rfl, by rw [hk2]; decide⟩)
    rw [hq_uu (f := ph)] at R3
    exact hq_OC_mk 0 R3 hs (hq_ok_u hok (by decide)) (hq_nz_u (by decide))
      (fun post h => hx_d21 (th := thr) ht hk16 hand (by omega) hrn (hx_ret_a ht (by omega) pk_us (by omega) e h))
      (fun post h => hy_d21a ht (by omega) (by omega) (by omega) en hcn.symm (by omega) e h)
  · have R3 := hm_end (r := 1) (w := nI (tm + 1)) R2 ht h24 ho hoo (by decide)
    rw [hq_uu (f := ph)] at R3
    exact hq_OC_mk 1 R3 (hz_fin hs) (hq_ok_u hok (by decide)) (fun z => absurd z (by decide))
      (fun post h => hx_d21 (th := thr) ht hk16 hand (by omega) hrn (hx_ret_b ht ho hoo (by omega) pk_us (by omega) (by omega) h))
      (fun post h => hy_d21b ht ho (by omega) (by omega) (by omega) en hcn.symm (by omega) (by omega) (by omega) h)
end
end
section
/-! the scan's steps, both sides -/
section
variable {fc hr tr ln tm cnt lc lim thr : Int32} {cN cX cV cS cO fs hz ph oo rA rB rC m vr pc sR sC rt rn ops lo sz : Nat → Int32} {t o : Nat} {x y r : Int32}
theorem hx_scanSweep {post : Int32 → SX → Prop} {fc' : Int32} {cN' cX' cS' cO' fs' rt' rn' : Nat → Int32} (ht : t < 4) (ho : o < 64) (hoo : oo t = nI o)
    (hS : ∀ post : Int32 → SX → Prop, post r (fc', hr, tr, ln, tm, cnt, lc, lim, thr, cN', cX', cV, cS', cO', fs', hz, ph, oo, rA, rB, rC, m, vr, pc, sR, sC, rt', rn', ops, lo, sz) → wpX_sweepRetired post (fc, hr, tr, ln, tm, cnt, lc, lim, thr, cN, cX, cV, cS, cO, fs, hz, ph, oo, rA, rB, rC, m, vr, pc, sR, sC, rt, rn, ops, lo, sz) (nI t))
    (h1 : hq_f ops o 0 = 1 → post 0 (fc', hr, tr, ln, tm, cnt, lc, lim, thr, cN', cX', cV, cS', cO', fs', hz, upd ph t 2, oo, rA, rB, rC, m, vr, pc, hq_clr sR t, upd sC t 0, rt', rn', ops, lo, sz))
    (h3 : hq_f ops o 0 = 3 → wpX_finish post (fc', hr, tr, ln, tm, cnt, lc, lim, thr, cN', cX', cV, cS', cO', fs', hz, ph, oo, rA, rB, rC, m, vr, pc, hq_clr sR t, upd sC t 0, rt', rn', upd ops (7 * o + 2) r, lo, sz) (nI t) 1)
    (h2 : hq_f ops o 0 ≠ 1 → hq_f ops o 0 ≠ 3 → wpX_finish post (fc', hr, tr, ln, tm, cnt, lc, lim, thr, cN', cX', cV, cS', cO', fs', hz, ph, oo, rA, rB, rC, m, vr, pc, hq_clr sR t, upd sC t 0, rt', rn', ops, lo, sz) (nI t) 1) : wpX_scanStep post (fc, hr, tr, ln, tm, cnt, lc, lim, thr, cN, cX, cV, cS, cO, fs, hz, ph, oo, rA, rB, rC, m, vr, pc, sR, sC, rt, rn, ops, lo, sz) (nI t) 23 := by
  unfold wpX_scanStep
  refine br_f (by decide) ?_
  unfold wpX_scanSweep
  refine hS _ ?_
  refine hx_clearSnapshot ht ⟨hx_v4 ht, ?_⟩
  dsimp only
  rw [hx_c4 ht]
  refine nm_r hoo (hx_getField 0 ho (by omega) ?_)
  by_cases e1 : hq_f ops o 0 = 1
  · exact br_t e1 (hx_enter ht (h1 e1))
  · refine br_f e1 ?_
    by_cases e3 : hq_f ops o 0 = 3
    · exact br_t e3 (hx_setField 2 ho (by omega) (h3 e3))
    · exact br_f e3 (h2 e1 e3)
end
section
variable {k : Nat → Nat} {ls : Nat → List Nat} {ll : List Nat} {H T L tm cnt fc lim thr cel : Nat} {cN cX cV cS cO fs hz ph oo rA rB rC m vr pc sR sC rt rn ops lo a b c s0 s1 sp lb fa ow : Nat → Int32} {sz : Nat → Int32} {t o : Nat} {x : Int32}
theorem hs_22 (R : hq_RR k ls ll H T L tm cnt fc lim thr cel cN cX cV cS cO fs hz ph oo rA rB rC m vr pc sR sC rt rn ops lo a b c s0 s1 sp lb fa ow) (hs : hq_sz tm cnt ops sz) (hok : hq_ok ph) (ht : t < 4) (htm : tm + 1 ≤ 1000) (ho : o < 64) (hoo : oo t = nI o) (hp : ph t = 22) : hq_OC t tm cnt lim thr cel sz (fun post => wpX_scanStep post (nI fc, hq_rf k (nI H), hq_rf k (nI T), nI L, nI (tm + 1), nI cnt, nI (List.length ll), nI lim, nI thr, cN, cX, cV, cS, cO, fs, hz, ph, oo, rA, rB, rC, m, vr, pc, sR, sC, rt, rn, ops, lo, sz) (nI t) 22) (fun post => wpY_scanStep post (nI cel, nI lim, nI thr, nI (tm + 1), nI H, nI T, nI L, nI cnt, ops, ph, a, b, c, m, s0, s1, sp, lb, fa, ow) (nI t) (nI o) 22) := by
  have R1 := hm_tick R htm
  have hP : (ph t).toInt = 22 := by rw [hp]; exact hq_i22
  have hsn := R.2.2.2.2.2.2.2.2.2.2.1 t ht
  rw [hP] at hsn
  have hr : 0 ≤ (sC t).toInt ∧ (sC t).toInt < 8 := by have := hsn.1; unfold hq_SN at this; omega
  obtain ⟨j, hj, hjs⟩ := hq_nle (N := 7) hr.1 (by omega)
  have hji : (sC t).toInt = j := by rw [hjs, nI_toInt (by omega)]
  have R3 := hm_scan (j := j) R1 ht hP (by omega) hjs rfl rfl
  have hx : (if j = 7 then 23 else 22 : Int32).toInt ≤ 23 ∧ (if j = 7 then 23 else 22 : Int32).toInt ≠ 0 := by
    by_cases q : j = 7
    · rw [if_pos q]; decide
    · rw [if_neg q]; decide
  exact hq_OC_mk 0 R3 hs (hq_ok_u hok hx.1) (hq_nz_u hx.2) (fun post h => hx_scanRead ht (by omega) hjs hp h)
    (fun post h => hy_scanRead ht (by omega) (fun i hi => by rw [hsn.2 i hi, hji]; omega) h)
/-- the sweep, both sides -/
theorem hm_sweep (R : hq_RR k ls ll H T L tm cnt fc lim thr cel cN cX cV cS cO fs hz ph oo rA rB rC m vr pc sR sC rt rn ops lo a b c s0 s1 sp lb fa ow) (ht : t < 4) (hP : (ph t).toInt = 23) :
    ∃ (ls' : Nat → List Nat) (fc' : Nat) (cN' cX' cS' cO' fs' rt' rn' : Nat → Int32),
      hq_RR k ls' ll H T L tm cnt fc' lim thr cel cN' cX' cV cS' cO' fs' hz (upd ph t 24) oo rA rB rC m vr pc (hq_clr sR t) (upd sC t 0) rt' rn' ops lo a b c s0 s1 (hq_clr sp t) lb (hq_sw fa (hq_sb (hq_S H sp fa ow t) 65) 4) (hq_sw ow (hq_sb (hq_S H sp fa ow t) 65) (-1)) ∧
      ∀ post : Int32 → SX → Prop, post (nI (hq_cn (hq_S H sp fa ow t) 65)) (nI fc', hq_rf k (nI H), hq_rf k (nI T), nI L, nI tm, nI cnt, nI (List.length ll), nI lim, nI thr, cN', cX', cV, cS', cO', fs', hz, ph, oo, rA, rB, rC, m, vr, pc, sR, sC, rt', rn', ops, lo, sz) → wpX_sweepRetired post (nI fc, hq_rf k (nI H), hq_rf k (nI T), nI L, nI tm, nI cnt, nI (List.length ll), nI lim, nI thr, cN, cX, cV, cS, cO, fs, hz, ph, oo, rA, rB, rC, m, vr, pc, sR, sC, rt, rn, ops, lo, sz) (nI t) := by
  have gSc := R.1
  unfold hq_sc at gSc
  have hlen := fun s hs => (hm_len (t := s) R hs).1
  obtain ⟨Q, gRt⟩ := hm_RQ R
  obtain ⟨y1, y2, y3, y4⟩ := gRt t ht
  have hlt := hlen t ht
  obtain ⟨fc', cN', cX', cS', cO', fs', rt', k1, k2, k3, k4⟩ := hw_sweep (sz := sz) (rn := rn) ht hP (ls t) [] 0 fc cN cX cS cO fs rt fa ow Q y1 (fun n hn => (y2 n).mp hn)
    (by
      intro j q hq
      rw [List.getElem?_map, Option.map_eq_some_iff] at hq
      obtain ⟨n, e1, e2⟩ := hq
      rw [← e2, Nat.add_zero]
      exact y4 j n e1)
    (hq_lh_nil _ _) (Nat.le_refl _) (by omega)
  rw [List.nil_append] at k2
  have hS : ∀ n, hq_sl (ls t) sp t n = true ↔ hq_sb (hq_S H sp fa ow t) 65 n = true := by
    intro n
    rw [hq_sl_iff, hq_sb_iff, hq_S_iff, y2 n]
    constructor
    · intro z
      have := hq_rb_iff.mp z.1
      exact ⟨by omega, z⟩
    · exact fun z => z.2
  rw [hq_sw_congr hS, hq_sw_congr hS] at k1
  have hSi : ∀ n, hq_sb (hq_S H sp fa ow t) 65 n = true ↔ hq_rb H fa ow t n = true ∧ ¬ hq_se sp t (nI n) = true := fun n => by rw [← hS n, hq_sl_iff, y2 n]
  generalize hq_sb (hq_S H sp fa ow t) 65 = S at k1 hSi hS ⊢
  have grt : hq_rt k (hq_ul ls t ((ls t).filter (fun n => hq_se sp t (nI n)))) H rt' (upd rn t (nI ((ls t).filter (fun n => hq_se sp t (nI n))).length)) (hq_sw fa S 4) (hq_sw ow S (-1)) := by
    intro s hs
    by_cases e : s = t
    · subst e
      rw [hq_ul_s]
      refine ⟨List.Pairwise.filter _ y1, fun n => ?_, pk_us, fun i n hin => ?_⟩
      · rw [List.mem_filter, y2 n]
        by_cases w : S n = true
        · have w2 := (hSi n).mp w
          rw [hq_rb_iff (fa := hq_sw fa S 4), hq_sw_t w]
          exact ⟨fun z => absurd z.2 w2.2, fun z => absurd z.2.1 (by decide)⟩
        · have e1 : hq_rb H (hq_sw fa S 4) (hq_sw ow S (-1)) s n = hq_rb H fa ow s n := by
            unfold hq_rb
            rw [hq_sw_f w, hq_sw_f w]
          rw [e1]
          constructor
          · exact fun z => z.1
          · intro z
            refine ⟨z, ?_⟩
            by_cases w3 : hq_se sp s (nI n) = true
            · exact w3
            · exact absurd ((hSi n).mpr ⟨z, w3⟩) w
      · exact k2 i (k n) (by rw [List.getElem?_map, hin]; rfl)
    · rw [hq_ul_n e]
      obtain ⟨x1, x2, x3, x4⟩ := gRt s hs
      refine ⟨x1, fun n => ?_, by rw [pk_un e]; exact x3, fun i n hin => ?_⟩
      · rw [x2 n]
        by_cases w : S n = true
        · have w2 := hq_rb_iff.mp ((hSi n).mp w).1
          rw [hq_rb_iff, hq_rb_iff, hq_sw_t w, w2.2.2]
          constructor
          · intro z
            have := z.2.2
            rw [nI_eq (by omega) (by omega)] at this
            exact absurd this.symm e
          · exact fun z => absurd z.2.1 (by decide)
        · have e1 : hq_rb H (hq_sw fa S 4) (hq_sw ow S (-1)) s n = hq_rb H fa ow s n := by
            unfold hq_rb
            rw [hq_sw_f w, hq_sw_f w]
          rw [e1]
      · have hi : i < (ls s).length := (List.getElem?_eq_some_iff.mp hin).1
        have := hlen s hs
        rw [k3 _ (by omega)]
        exact x4 i n hin
  have hcnt : (ls t).length = ((ls t).filter (fun n => hq_se sp t (nI n))).length + hq_cn (hq_S H sp fa ow t) 65 := by
    have e1 : ((ls t).filter (fun n => !hq_se sp t (nI n))).length = hq_cn (hq_S H sp fa ow t) 65 := hq_cn_list (List.Pairwise.filter _ y1) (fun n => by
      rw [List.mem_filter, y2 n, hq_S_iff, Bool.not_eq_true', Bool.not_eq_true]
      constructor
      · intro z
        have := hq_rb_iff.mp z.1
        exact ⟨by omega, z⟩
      · exact fun z => z.2)
    rw [← e1]
    have := List.Perm.length_eq (List.filter_append_perm (fun n => hq_se sp t (nI n)) (ls t))
    rw [List.length_append] at this
    exact this.symm
  refine ⟨_, fc', cN', cX', cS', cO', fs', rt', _, hm_clr (hm_QR k1 grt) ht hP, fun post h => ?_⟩
  unfold wpX_sweepRetired
  refine nm_r (hq_m16 t) ⟨hx_v4 ht, ?_⟩
  rw [hx_c4 ht]
  refine nm_r y3 ⟨(ls t).length + 1, ?_⟩
  have hw := k4 post ((ls t).length + 1) (by omega) (by
    rw [List.nil_append, Nat.zero_add, pk_sub (by omega), show (ls t).length - ((ls t).filter (fun n => hq_se sp t (nI n))).length = hq_cn (hq_S H sp fa ow t) 65 by omega]
    exact h)
  rw [Nat.zero_add] at hw
  exact hw
theorem hs_23 (R : hq_RR k ls ll H T L tm cnt fc lim thr cel cN cX cV cS cO fs hz ph oo rA rB rC m vr pc sR sC rt rn ops lo a b c s0 s1 sp lb fa ow) (hs : hq_sz tm cnt ops sz) (hok : hq_ok ph) (ht : t < 4) (htm : tm + 1 ≤ 1000) (ho : o < 64) (hoo : oo t = nI o) (hp : ph t = 23) : hq_OC t tm cnt lim thr cel sz (fun post => wpX_scanStep post (nI fc, hq_rf k (nI H), hq_rf k (nI T), nI L, nI (tm + 1), nI cnt, nI (List.length ll), nI lim, nI thr, cN, cX, cV, cS, cO, fs, hz, ph, oo, rA, rB, rC, m, vr, pc, sR, sC, rt, rn, ops, lo, sz) (nI t) 23) (fun post => wpY_scanStep post (nI cel, nI lim, nI thr, nI (tm + 1), nI H, nI T, nI L, nI cnt, ops, ph, a, b, c, m, s0, s1, sp, lb, fa, ow) (nI t) (nI o) 23) := by
  have gSc := R.1
  unfold hq_sc at gSc
  have R1 := hm_tick R htm
  have hP : (ph t).toInt = 23 := by rw [hp]; exact hq_i23
  obtain ⟨hoc, hob⟩ := hm_o R ht (by omega) ho hoo
  rw [hP] at hob
  obtain ⟨ls', fc', cN', cX', cS', cO', fs', rt', rn', R2, hw⟩ := hm_sweep (sz := sz) R1 ht hP
  have h24 : (upd ph t 24 t).toInt = 24 := by rw [pk_us]; exact hq_i24
  rcases hob.2.2.1 with kd | kd | kd
  · have R3 := hm_24 (x := 2) R2 ht h24 ho hoo hq_i2 (Or.inr ⟨rfl, kd, hob.2.2.2.2.2.2.2 (by omega) (by omega) kd⟩)
    rw [hq_uu (f := ph)] at R3
    exact hq_OC_mk 0 R3 hs (hq_ok_u hok (by decide)) (hq_nz_u (by decide))
      (fun post h => hx_scanSweep ht ho hoo hw (fun _ => h) (fun z => absurd (kd.symm.trans z) (by decide)) (fun z _ => absurd kd z))
      (fun post h => br_f (by decide) ⟨66, by
        have := hy_sweep (H := H) (L := L) (o := o) (post := post) ht ho (by omega) (by omega) (fun _ => h) (fun z => absurd (kd.symm.trans z) (by decide)) (fun z _ => absurd kd z) 65 0 rfl
        rw [hq_sw_0, hq_sw_0] at this
        exact this⟩)
  · have R3 := hm_end (r := 1) (w := nI (tm + 1)) R2 ht h24 ho hoo (by decide)
    rw [hq_uu (f := ph)] at R3
    exact hq_OC_mk 1 R3 (hz_fin hs) (hq_ok_u hok (by decide)) (fun z => absurd z (by decide))
      (fun post h => hx_scanSweep ht ho hoo hw (fun z => absurd (kd.symm.trans z) (by decide)) (fun z => absurd (kd.symm.trans z) (by decide)) (fun _ _ => hx_finish ht ho hoo h))
      (fun post h => br_f (by decide) ⟨66, by
        have := hy_sweep (H := H) (L := L) (o := o) (post := post) ht ho (by omega) (by omega) (fun z => absurd (kd.symm.trans z) (by decide)) (fun z => absurd (kd.symm.trans z) (by decide)) (fun _ _ => hy_finish ht ho h) 65 0 rfl
        rw [hq_sw_0, hq_sw_0] at this
        exact this⟩)
  · have R3 := hm_setv (w := nI (hq_cn (hq_S H sp fa ow t) 65)) R2 ht h24 ho hoo kd
    have R4 := hm_end (r := 1) (w := nI (tm + 1)) R3 ht h24 ho hoo (by decide)
    rw [hq_uu (f := ph)] at R4
    refine hq_OC_mk 1 R4 (hz_fin (hz_op (o := o) hs (fun i hi => ?_) (fun q hq => ?_) (fun q hq => ?_))) (hq_ok_u hok (by decide)) (fun z => absurd z (by decide))
      (fun post h => hx_scanSweep ht ho hoo hw (fun z => absurd (kd.symm.trans z) (by decide)) (fun _ => hx_finish ht ho hoo h) (fun _ z => absurd kd z))
      (fun post h => br_f (by decide) ⟨66, by
        have := hy_sweep (H := H) (L := L) (o := o) (post := post) ht ho (by omega) (by omega) (fun z => absurd (kd.symm.trans z) (by decide)) (fun _ => hy_finish ht ho h) (fun _ z => absurd kd z) 65 0 rfl
        rw [hq_sw_0, hq_sw_0] at this
        exact this⟩)
    · exact ⟨hq_fn (by omega) (by omega) (Or.inl hi), hq_fn (by omega) (by omega) (Or.inl hi), hq_fn (by omega) (by omega) (Or.inl hi)⟩
    · unfold hq_we hq_wd
      rw [kd]
      exact ⟨decide_eq_false (fun z => absurd z.1 (by decide)), decide_eq_false (fun z => absurd z.1 (by decide))⟩
    · unfold hq_we hq_wd
      rw [hq_fn (by omega) (by omega) (Or.inr (by omega)), kd]
      exact ⟨decide_eq_false (fun z => absurd z.1 (by decide)), decide_eq_false (fun z => absurd z.1 (by decide))⟩
end
end
section
/-! a step, both sides -/
def hq_Rx (P : (Nat → Int32) → Prop) (u : SX) (v : SY) : Prop := ∃ (k : Nat → Nat) (ls : Nat → List Nat) (ll : List Nat) (H T L tm cnt fc lim thr cel : Nat) (cN cX cV cS cO fs hz ph oo rA rB rC m vr pc sR sC rt rn ops lo a b c s0 s1 sp lb fa ow sz : Nat → Int32), u = (nI fc, hq_rf k (nI H), hq_rf k (nI T), nI L, nI tm, nI cnt, nI (List.length ll), nI lim, nI thr, cN, cX, cV, cS, cO, fs, hz, ph, oo, rA, rB, rC, m, vr, pc, sR, sC, rt, rn, ops, lo, sz) ∧ v = (nI cel, nI lim, nI thr, nI tm, nI H, nI T, nI L, nI cnt, ops, ph, a, b, c, m, s0, s1, sp, lb, fa, ow) ∧ hq_RR k ls ll H T L tm cnt fc lim thr cel cN cX cV cS cO fs hz ph oo rA rB rC m vr pc sR sC rt rn ops lo a b c s0 s1 sp lb fa ow ∧ hq_sz tm cnt ops sz ∧ hq_ok ph ∧ P ph
theorem hq_Rx_mk {k : Nat → Nat} {ls : Nat → List Nat} {ll : List Nat} {H T L tm cnt fc lim thr cel : Nat} {cN cX cV cS cO fs hz ph oo rA rB rC m vr pc sR sC rt rn ops lo a b c s0 s1 sp lb fa ow : Nat → Int32} {sz : Nat → Int32} {P : (Nat → Int32) → Prop} (R : hq_RR k ls ll H T L tm cnt fc lim thr cel cN cX cV cS cO fs hz ph oo rA rB rC m vr pc sR sC rt rn ops lo a b c s0 s1 sp lb fa ow) (hs : hq_sz tm cnt ops sz) (hok : hq_ok ph) (hP : P ph) : hq_Rx P (nI fc, hq_rf k (nI H), hq_rf k (nI T), nI L, nI tm, nI cnt, nI (List.length ll), nI lim, nI thr, cN, cX, cV, cS, cO, fs, hz, ph, oo, rA, rB, rC, m, vr, pc, sR, sC, rt, rn, ops, lo, sz) (nI cel, nI lim, nI thr, nI tm, nI H, nI T, nI L, nI cnt, ops, ph, a, b, c, m, s0, s1, sp, lb, fa, ow) :=
  ⟨k, ls, ll, H, T, L, tm, cnt, fc, lim, thr, cel, cN, cX, cV, cS, cO, fs, hz, ph, oo, rA, rB, rC, m, vr, pc, sR, sC, rt, rn, ops, lo, a, b, c, s0, s1, sp, lb, fa, ow, sz, rfl, rfl, R, hs, hok, hP⟩
theorem hq_Rx_el {P : (Nat → Int32) → Prop} {Q : SX → SY → Prop} (h : ∀ (k : Nat → Nat) (ls : Nat → List Nat) (ll : List Nat) (H T L tm cnt fc lim thr cel : Nat) (cN cX cV cS cO fs hz ph oo rA rB rC m vr pc sR sC rt rn ops lo a b c s0 s1 sp lb fa ow sz : Nat → Int32), hq_RR k ls ll H T L tm cnt fc lim thr cel cN cX cV cS cO fs hz ph oo rA rB rC m vr pc sR sC rt rn ops lo a b c s0 s1 sp lb fa ow → hq_sz tm cnt ops sz → hq_ok ph → P ph → Q (nI fc, hq_rf k (nI H), hq_rf k (nI T), nI L, nI tm, nI cnt, nI (List.length ll), nI lim, nI thr, cN, cX, cV, cS, cO, fs, hz, ph, oo, rA, rB, rC, m, vr, pc, sR, sC, rt, rn, ops, lo, sz) (nI cel, nI lim, nI thr, nI tm, nI H, nI T, nI L, nI cnt, ops, ph, a, b, c, m, s0, s1, sp, lb, fa, ow)) {u : SX} {v : SY} (I : hq_Rx P u v) : Q u v :=
  Exists.elim I fun k I => Exists.elim I fun ls I => Exists.elim I fun ll I => Exists.elim I fun H I => Exists.elim I fun T I => Exists.elim I fun L I => Exists.elim I fun tm I => Exists.elim I fun cnt I => Exists.elim I fun fc I => Exists.elim I fun lim I => Exists.elim I fun thr I => Exists.elim I fun cel I => Exists.elim I fun cN I => Exists.elim I fun cX I => Exists.elim I fun cV I => Exists.elim I fun cS I => Exists.elim I fun cO I => Exists.elim I fun fs I => Exists.elim I fun hz I => Exists.elim I fun ph I => Exists.elim I fun oo I => Exists.elim I fun rA I => Exists.elim I fun rB I => Exists.elim I fun rC I => Exists.elim I fun m I => Exists.elim I fun vr I => Exists.elim I fun pc I => Exists.elim I fun sR I => Exists.elim I fun sC I => Exists.elim I fun rt I => Exists.elim I fun rn I => Exists.elim I fun ops I => Exists.elim I fun lo I => Exists.elim I fun a I => Exists.elim I fun b I => Exists.elim I fun c I => Exists.elim I fun s0 I => Exists.elim I fun s1 I => Exists.elim I fun sp I => Exists.elim I fun lb I => Exists.elim I fun fa I => Exists.elim I fun ow I => Exists.elim I fun sz I => by
    rw [I.1, I.2.1]
    exact h k ls ll H T L tm cnt fc lim thr cel cN cX cV cS cO fs hz ph oo rA rB rC m vr pc sR sC rt rn ops lo a b c s0 s1 sp lb fa ow sz I.2.2.1 I.2.2.2.1 I.2.2.2.2.1 I.2.2.2.2.2
section
variable {k : Nat → Nat} {ls : Nat → List Nat} {ll : List Nat} {H T L tm cnt fc lim thr cel : Nat} {cN cX cV cS cO fs hz ph oo rA rB rC m vr pc sR sC rt rn ops lo a b c s0 s1 sp lb fa ow : Nat → Int32} {sz : Nat → Int32} {t o : Nat} {x : Int32}
theorem hz_step (R : hq_RR k ls ll H T L (tm + 1) cnt fc lim thr cel cN cX cV cS cO fs hz ph oo rA rB rC m vr pc sR sC rt rn ops lo a b c s0 s1 sp lb fa ow) (hs : hq_sz tm cnt ops sz) : hq_sz (tm + 1) cnt ops (upd sz (tm + 1) (nI L - nI H)) := by
  intro w hw
  by_cases e : w = tm + 1
  · subst e
    obtain ⟨e1, _⟩ := R.2.2.2.2.2.2.2.2.2.2.2.2.1
    obtain ⟨c1, c2⟩ := R.2.2.2.2.2.2.2.2.2.2.2.2.2.1
    rw [pk_us]
    have a1 : hq_cn (hq_we ops (tm + 1)) cnt = hq_cn (hq_ce ops) cnt := hq_cn_congr fun i hi => by
      have := e1 i hi
      rw [Bool.eq_iff_iff, hq_ce_iff]
      unfold hq_we
      rw [decide_eq_true_iff]
      constructor
      · exact fun z => ⟨z.1, hq_ne (by rw [hq_i0]; omega)⟩
      · intro z
        have z2 : (hq_f ops i 5).toInt ≠ 0 := fun q => z.2 (hq_inj (by rw [q, hq_i0]))
        exact ⟨z.1, by omega, by omega⟩
    have a2 : hq_cn (hq_wd ops (tm + 1)) cnt = hq_cn (hq_cd ops) cnt := hq_cn_congr fun i hi => by
      have := e1 i hi
      rw [Bool.eq_iff_iff, hq_cd_iff]
      unfold hq_wd
      rw [decide_eq_true_iff]
      constructor
      · exact fun z => ⟨z.1, z.2.1, hq_ne (by rw [hq_i0]; omega)⟩
      · intro z
        have z2 : (hq_f ops i 5).toInt ≠ 0 := fun q => z.2.2 (hq_inj (by rw [q, hq_i0]))
        exact ⟨z.1, z.2.1, by omega, by omega⟩
    rw [a1, a2, c1, c2]
  · rw [pk_un e]
    exact hs w (by omega)
theorem hx_mk56 {post : Int32 → SX → Prop} {r : Int32} (R : hq_RR k ls ll H T L tm cnt fc lim thr cel cN cX cV cS cO fs hz ph oo rA rB rC m vr pc sR sC rt rn ops lo a b c s0 s1 sp lb fa ow) (h : post r (nI fc, hq_rf k (nI H), hq_rf k (nI T), nI L, nI tm, nI cnt, nI (List.length ll), nI lim, nI thr, cN, cX, cV, cS, cO, fs, hz, ph, oo, rA, rB, rC, m, vr, pc, sR, sC, rt, rn, ops, lo, upd sz tm (nI L - nI H))) : wX_makeStep_56 post r (nI fc) (hq_rf k (nI H)) (hq_rf k (nI T)) (nI L) (nI tm) (nI cnt) (nI (List.length ll)) (nI lim) (nI thr) cN cX cV cS cO fs hz ph oo rA rB rC m vr pc sR sC rt rn ops lo sz := by
  have gSc := R.1
  unfold hq_sc at gSc
  unfold wX_makeStep_56
  refine hx_numberOf_rf (L := L) (by omega) R.2.2.1.1 (by rw [nI_toInt (by omega)]; omega) ⟨vp_in_nI (by omega) (by decide), ?_⟩
  rw [nI_clamp (by omega)]
  exact nm_e h
/-- an outcome of makeStep and of the reference's step behind its search -/
def hq_ST (t : Nat) (X : (Int32 → SX → Prop) → Prop) (Y : (Int32 → SY → Prop) → Prop) : Prop :=
  ∃ (r : Int32) (u : SX) (v : SY), hq_Rx (fun ph => r = 0 → (ph t).toInt ≠ 0) u v ∧ (∀ post, post r u → X post) ∧ (∀ post, post r v → Y post)
theorem hs_mk {X X' : (Int32 → SX → Prop) → Prop} {Y : (Int32 → SY → Prop) → Prop} (I : hq_OC t tm cnt lim thr cel sz X Y)
    (hX : ∀ post : Int32 → SX → Prop, X (fun r u => wX_makeStep_56 post r u.1 u.2.1 u.2.2.1 u.2.2.2.1 u.2.2.2.2.1 u.2.2.2.2.2.1 u.2.2.2.2.2.2.1 u.2.2.2.2.2.2.2.1 u.2.2.2.2.2.2.2.2.1 u.2.2.2.2.2.2.2.2.2.1 u.2.2.2.2.2.2.2.2.2.2.1 u.2.2.2.2.2.2.2.2.2.2.2.1 u.2.2.2.2.2.2.2.2.2.2.2.2.1 u.2.2.2.2.2.2.2.2.2.2.2.2.2.1 u.2.2.2.2.2.2.2.2.2.2.2.2.2.2.1 u.2.2.2.2.2.2.2.2.2.2.2.2.2.2.2.1 u.2.2.2.2.2.2.2.2.2.2.2.2.2.2.2.2.1 u.2.2.2.2.2.2.2.2.2.2.2.2.2.2.2.2.2.1 u.2.2.2.2.2.2.2.2.2.2.2.2.2.2.2.2.2.2.1 u.2.2.2.2.2.2.2.2.2.2.2.2.2.2.2.2.2.2.2.1 u.2.2.2.2.2.2.2.2.2.2.2.2.2.2.2.2.2.2.2.2.1 u.2.2.2.2.2.2.2.2.2.2.2.2.2.2.2.2.2.2.2.2.2.1 u.2.2.2.2.2.2.2.2.2.2.2.2.2.2.2.2.2.2.2.2.2.2.1 u.2.2.2.2.2.2.2.2.2.2.2.2.2.2.2.2.2.2.2.2.2.2.2.1 u.2.2.2.2.2.2.2.2.2.2.2.2.2.2.2.2.2.2.2.2.2.2.2.2.1 u.2.2.2.2.2.2.2.2.2.2.2.2.2.2.2.2.2.2.2.2.2.2.2.2.2.1 u.2.2.2.2.2.2.2.2.2.2.2.2.2.2.2.2.2.2.2.2.2.2.2.2.2.2.1 u.2.2.2.2.2.2.2.2.2.2.2.2.2.2.2.2.2.2.2.2.2.2.2.2.2.2.2.1 u.2.2.2.2.2.2.2.2.2.2.2.2.2.2.2.2.2.2.2.2.2.2.2.2.2.2.2.2.1 u.2.2.2.2.2.2.2.2.2.2.2.2.2.2.2.2.2.2.2.2.2.2.2.2.2.2.2.2.2.1 u.2.2.2.2.2.2.2.2.2.2.2.2.2.2.2.2.2.2.2.2.2.2.2.2.2.2.2.2.2.2) → X' post) : hq_ST t X' Y :=
  Exists.elim I fun r I => Exists.elim I fun k I => Exists.elim I fun ls I => Exists.elim I fun ll I => Exists.elim I fun H I => Exists.elim I fun T I => Exists.elim I fun L I => Exists.elim I fun fc I => Exists.elim I fun cN I => Exists.elim I fun cX I => Exists.elim I fun cV I => Exists.elim I fun cS I => Exists.elim I fun cO I => Exists.elim I fun fs I => Exists.elim I fun hz I => Exists.elim I fun ph I => Exists.elim I fun oo I => Exists.elim I fun rA I => Exists.elim I fun rB I => Exists.elim I fun rC I => Exists.elim I fun m I => Exists.elim I fun vr I => Exists.elim I fun pc I => Exists.elim I fun sR I => Exists.elim I fun sC I => Exists.elim I fun rt I => Exists.elim I fun rn I => Exists.elim I fun ops I => Exists.elim I fun lo I => Exists.elim I fun a I => Exists.elim I fun b I => Exists.elim I fun c I => Exists.elim I fun s0 I => Exists.elim I fun s1 I => Exists.elim I fun sp I => Exists.elim I fun lb I => Exists.elim I fun fa I => Exists.elim I fun ow I => by
    obtain ⟨R, hs, hok, hr, h1, h2⟩ := I
    exact ⟨r, _, _, hq_Rx_mk R (hz_step R hs) hok hr, fun post h => hX post (h1 _ (hx_mk56 R h)), h2⟩
theorem hx_makeE {post : Int32 → SX → Prop} {p : Int32} (ht : t < 4) (hp : ph t = p) (h10 : ¬ 10 < p) (h : wpX_enqueueStep (fun r u => wX_makeStep_56 post r u.1 u.2.1 u.2.2.1 u.2.2.2.1 u.2.2.2.2.1 u.2.2.2.2.2.1 u.2.2.2.2.2.2.1 u.2.2.2.2.2.2.2.1 u.2.2.2.2.2.2.2.2.1 u.2.2.2.2.2.2.2.2.2.1 u.2.2.2.2.2.2.2.2.2.2.1 u.2.2.2.2.2.2.2.2.2.2.2.1 u.2.2.2.2.2.2.2.2.2.2.2.2.1 u.2.2.2.2.2.2.2.2.2.2.2.2.2.1 u.2.2.2.2.2.2.2.2.2.2.2.2.2.2.1 u.2.2.2.2.2.2.2.2.2.2.2.2.2.2.2.1 u.2.2.2.2.2.2.2.2.2.2.2.2.2.2.2.2.1 u.2.2.2.2.2.2.2.2.2.2.2.2.2.2.2.2.2.1 u.2.2.2.2.2.2.2.2.2.2.2.2.2.2.2.2.2.2.1 u.2.2.2.2.2.2.2.2.2.2.2.2.2.2.2.2.2.2.2.1 u.2.2.2.2.2.2.2.2.2.2.2.2.2.2.2.2.2.2.2.2.1 u.2.2.2.2.2.2.2.2.2.2.2.2.2.2.2.2.2.2.2.2.2.1 u.2.2.2.2.2.2.2.2.2.2.2.2.2.2.2.2.2.2.2.2.2.2.1 u.2.2.2.2.2.2.2.2.2.2.2.2.2.2.2.2.2.2.2.2.2.2.2.1 u.2.2.2.2.2.2.2.2.2.2.2.2.2.2.2.2.2.2.2.2.2.2.2.2.1 u.2.2.2.2.2.2.2.2.2.2.2.2.2.2.2.2.2.2.2.2.2.2.2.2.2.1 u.2.2.2.2.2.2.2.2.2.2.2.2.2.2.2.2.2.2.2.2.2.2.2.2.2.2.1 u.2.2.2.2.2.2.2.2.2.2.2.2.2.2.2.2.2.2.2.2.2.2.2.2.2.2.2.1 u.2.2.2.2.2.2.2.2.2.2.2.2.2.2.2.2.2.2.2.2.2.2.2.2.2.2.2.2.1 u.2.2.2.2.2.2.2.2.2.2.2.2.2.2.2.2.2.2.2.2.2.2.2.2.2.2.2.2.2.1 u.2.2.2.2.2.2.2.2.2.2.2.2.2.2.2.2.2.2.2.2.2.2.2.2.2.2.2.2.2.2) (nI fc, hq_rf k (nI H), hq_rf k (nI T), nI L, nI (tm + 1), nI cnt, nI (List.length ll), nI lim, nI thr, cN, cX, cV, cS, cO, fs, hz, ph, oo, rA, rB, rC, m, vr, pc, sR, sC, rt, rn, ops, lo, sz) (nI t) p) : wpX_makeStep post (nI fc, hq_rf k (nI H), hq_rf k (nI T), nI L, nI tm, nI cnt, nI (List.length ll), nI lim, nI thr, cN, cX, cV, cS, cO, fs, hz, ph, oo, rA, rB, rC, m, vr, pc, sR, sC, rt, rn, ops, lo, sz) (nI t) := by
  unfold wpX_makeStep
  dsimp only
  rw [hx_c4 ht]
  exact nm_r (nI_1 tm) ⟨hx_v4 ht, nm_r hp (br_f h10 h)⟩
theorem hx_makeD {post : Int32 → SX → Prop} {p : Int32} (ht : t < 4) (hp : ph t = p) (h10 : 10 < p) (h21 : ¬ 21 < p) (h : wpX_dequeueStep (fun r u => wX_makeStep_56 post r u.1 u.2.1 u.2.2.1 u.2.2.2.1 u.2.2.2.2.1 u.2.2.2.2.2.1 u.2.2.2.2.2.2.1 u.2.2.2.2.2.2.2.1 u.2.2.2.2.2.2.2.2.1 u.2.2.2.2.2.2.2.2.2.1 u.2.2.2.2.2.2.2.2.2.2.1 u.2.2.2.2.2.2.2.2.2.2.2.1 u.2.2.2.2.2.2.2.2.2.2.2.2.1 u.2.2.2.2.2.2.2.2.2.2.2.2.2.1 u.2.2.2.2.2.2.2.2.2.2.2.2.2.2.1 u.2.2.2.2.2.2.2.2.2.2.2.2.2.2.2.1 u.2.2.2.2.2.2.2.2.2.2.2.2.2.2.2.2.1 u.2.2.2.2.2.2.2.2.2.2.2.2.2.2.2.2.2.1 u.2.2.2.2.2.2.2.2.2.2.2.2.2.2.2.2.2.2.1 u.2.2.2.2.2.2.2.2.2.2.2.2.2.2.2.2.2.2.2.1 u.2.2.2.2.2.2.2.2.2.2.2.2.2.2.2.2.2.2.2.2.1 u.2.2.2.2.2.2.2.2.2.2.2.2.2.2.2.2.2.2.2.2.2.1 u.2.2.2.2.2.2.2.2.2.2.2.2.2.2.2.2.2.2.2.2.2.2.1 u.2.2.2.2.2.2.2.2.2.2.2.2.2.2.2.2.2.2.2.2.2.2.2.1 u.2.2.2.2.2.2.2.2.2.2.2.2.2.2.2.2.2.2.2.2.2.2.2.2.1 u.2.2.2.2.2.2.2.2.2.2.2.2.2.2.2.2.2.2.2.2.2.2.2.2.2.1 u.2.2.2.2.2.2.2.2.2.2.2.2.2.2.2.2.2.2.2.2.2.2.2.2.2.2.1 u.2.2.2.2.2.2.2.2.2.2.2.2.2.2.2.2.2.2.2.2.2.2.2.2.2.2.2.1 u.2.2.2.2.2.2.2.2.2.2.2.2.2.2.2.2.2.2.2.2.2.2.2.2.2.2.2.2.1 u.2.2.2.2.2.2.2.2.2.2.2.2.2.2.2.2.2.2.2.2.2.2.2.2.2.2.2.2.2.1 u.2.2.2.2.2.2.2.2.2.2.2.2.2.2.2.2.2.2.2.2.2.2.2.2.2.2.2.2.2.2) (nI fc, hq_rf k (nI H), hq_rf k (nI T), nI L, nI (tm + 1), nI cnt, nI (List.length ll), nI lim, nI thr, cN, cX, cV, cS, cO, fs, hz, ph, oo, rA, rB, rC, m, vr, pc, sR, sC, rt, rn, ops, lo, sz) (nI t) p) : wpX_makeStep post (nI fc, hq_rf k (nI H), hq_rf k (nI T), nI L, nI tm, nI cnt, nI (List.length ll), nI lim, nI thr, cN, cX, cV, cS, cO, fs, hz, ph, oo, rA, rB, rC, m, vr, pc, sR, sC, rt, rn, ops, lo, sz) (nI t) := by
  unfold wpX_makeStep
  dsimp only
  rw [hx_c4 ht]
  exact nm_r (nI_1 tm) ⟨hx_v4 ht, nm_r hp (br_t h10 (br_f h21 h))⟩
theorem hx_makeS {post : Int32 → SX → Prop} {p : Int32} (ht : t < 4) (hp : ph t = p) (h10 : 10 < p) (h21 : 21 < p) (h : wpX_scanStep (fun r u => wX_makeStep_56 post r u.1 u.2.1 u.2.2.1 u.2.2.2.1 u.2.2.2.2.1 u.2.2.2.2.2.1 u.2.2.2.2.2.2.1 u.2.2.2.2.2.2.2.1 u.2.2.2.2.2.2.2.2.1 u.2.2.2.2.2.2.2.2.2.1 u.2.2.2.2.2.2.2.2.2.2.1 u.2.2.2.2.2.2.2.2.2.2.2.1 u.2.2.2.2.2.2.2.2.2.2.2.2.1 u.2.2.2.2.2.2.2.2.2.2.2.2.2.1 u.2.2.2.2.2.2.2.2.2.2.2.2.2.2.1 u.2.2.2.2.2.2.2.2.2.2.2.2.2.2.2.1 u.2.2.2.2.2.2.2.2.2.2.2.2.2.2.2.2.1 u.2.2.2.2.2.2.2.2.2.2.2.2.2.2.2.2.2.1 u.2.2.2.2.2.2.2.2.2.2.2.2.2.2.2.2.2.2.1 u.2.2.2.2.2.2.2.2.2.2.2.2.2.2.2.2.2.2.2.1 u.2.2.2.2.2.2.2.2.2.2.2.2.2.2.2.2.2.2.2.2.1 u.2.2.2.2.2.2.2.2.2.2.2.2.2.2.2.2.2.2.2.2.2.1 u.2.2.2.2.2.2.2.2.2.2.2.2.2.2.2.2.2.2.2.2.2.2.1 u.2.2.2.2.2.2.2.2.2.2.2.2.2.2.2.2.2.2.2.2.2.2.2.1 u.2.2.2.2.2.2.2.2.2.2.2.2.2.2.2.2.2.2.2.2.2.2.2.2.1 u.2.2.2.2.2.2.2.2.2.2.2.2.2.2.2.2.2.2.2.2.2.2.2.2.2.1 u.2.2.2.2.2.2.2.2.2.2.2.2.2.2.2.2.2.2.2.2.2.2.2.2.2.2.1 u.2.2.2.2.2.2.2.2.2.2.2.2.2.2.2.2.2.2.2.2.2.2.2.2.2.2.2.1 u.2.2.2.2.2.2.2.2.2.2.2.2.2.2.2.2.2.2.2.2.2.2.2.2.2.2.2.2.1 u.2.2.2.2.2.2.2.2.2.2.2.2.2.2.2.2.2.2.2.2.2.2.2.2.2.2.2.2.2.1 u.2.2.2.2.2.2.2.2.2.2.2.2.2.2.2.2.2.2.2.2.2.2.2.2.2.2.2.2.2.2) (nI fc, hq_rf k (nI H), hq_rf k (nI T), nI L, nI (tm + 1), nI cnt, nI (List.length ll), nI lim, nI thr, cN, cX, cV, cS, cO, fs, hz, ph, oo, rA, rB, rC, m, vr, pc, sR, sC, rt, rn, ops, lo, sz) (nI t) p) : wpX_makeStep post (nI fc, hq_rf k (nI H), hq_rf k (nI T), nI L, nI tm, nI cnt, nI (List.length ll), nI lim, nI thr, cN, cX, cV, cS, cO, fs, hz, ph, oo, rA, rB, rC, m, vr, pc, sR, sC, rt, rn, ops, lo, sz) (nI t) := by
  unfold wpX_makeStep
  dsimp only
  rw [hx_c4 ht]
  exact nm_r (nI_1 tm) ⟨hx_v4 ht, nm_r hp (br_t h10 (br_t h21 h))⟩
theorem hy_67E {post : Int32 → SY → Prop} {p : Int32} (ht : t < 4) (ho : o < 64) (htm : tm + 1 ≤ 1000) (hp : ph t = p) (h0 : ¬ p = 0) (h10 : ¬ 10 < p) (h : wpY_enqueueStep post (nI cel, nI lim, nI thr, nI (tm + 1), nI H, nI T, nI L, nI cnt, ops, ph, a, b, c, m, s0, s1, sp, lb, fa, ow) (nI t) (nI o) p) : wY_step_67 post (nI t) (nI o) (nI cel) (nI lim) (nI thr) (nI tm) (nI H) (nI T) (nI L) (nI cnt) ops ph a b c m s0 s1 sp lb fa ow := by
  unfold wY_step_67
  rw [hx_c4 ht, hp]
  exact ⟨hx_v4 ht, br_f h0 (br_t (nI_pos' (by omega)) (br_t (nI_lt (b := 1000) (by omega) (by decide)) (nm_r (nI_1 tm) ⟨hx_v4 ht, br_f h10 ⟨hx_v4 ht, h⟩⟩)))⟩
theorem hy_67D {post : Int32 → SY → Prop} {p : Int32} (ht : t < 4) (ho : o < 64) (htm : tm + 1 ≤ 1000) (hp : ph t = p) (h0 : ¬ p = 0) (h10 : 10 < p) (h21 : ¬ 21 < p) (h : wpY_dequeueStep post (nI cel, nI lim, nI thr, nI (tm + 1), nI H, nI T, nI L, nI cnt, ops, ph, a, b, c, m, s0, s1, sp, lb, fa, ow) (nI t) (nI o) p) : wY_step_67 post (nI t) (nI o) (nI cel) (nI lim) (nI thr) (nI tm) (nI H) (nI T) (nI L) (nI cnt) ops ph a b c m s0 s1 sp lb fa ow := by
  unfold wY_step_67
  rw [hx_c4 ht, hp]
  exact ⟨hx_v4 ht, br_f h0 (br_t (nI_pos' (by omega)) (br_t (nI_lt (b := 1000) (by omega) (by decide)) (nm_r (nI_1 tm) ⟨hx_v4 ht, br_t h10 ⟨hx_v4 ht, br_f h21 ⟨hx_v4 ht, h⟩⟩⟩)))⟩
theorem hy_67S {post : Int32 → SY → Prop} {p : Int32} (ht : t < 4) (ho : o < 64) (htm : tm + 1 ≤ 1000) (hp : ph t = p) (h0 : ¬ p = 0) (h10 : 10 < p) (h21 : 21 < p) (h : wpY_scanStep post (nI cel, nI lim, nI thr, nI (tm + 1), nI H, nI T, nI L, nI cnt, ops, ph, a, b, c, m, s0, s1, sp, lb, fa, ow) (nI t) (nI o) p) : wY_step_67 post (nI t) (nI o) (nI cel) (nI lim) (nI thr) (nI tm) (nI H) (nI T) (nI L) (nI cnt) ops ph a b c m s0 s1 sp lb fa ow := by
  unfold wY_step_67
  rw [hx_c4 ht, hp]
  exact ⟨hx_v4 ht, br_f h0 (br_t (nI_pos' (by omega)) (br_t (nI_lt (b := 1000) (by omega) (by decide)) (nm_r (nI_1 tm) ⟨hx_v4 ht, br_t h10 ⟨hx_v4 ht, br_t h21 ⟨hx_v4 ht, h⟩⟩⟩)))⟩
theorem hq_ST_Y {X : (Int32 → SX → Prop) → Prop} {Y Y' : (Int32 → SY → Prop) → Prop} (I : hq_ST t X Y) (h : ∀ post, Y post → Y' post) : hq_ST t X Y' := by
  obtain ⟨r, u, v, h1, h2, h3⟩ := I
  exact ⟨r, u, v, h1, h2, fun post hp => h post (h3 post hp)⟩
theorem hs_E (R : hq_RR k ls ll H T L tm cnt fc lim thr cel cN cX cV cS cO fs hz ph oo rA rB rC m vr pc sR sC rt rn ops lo a b c s0 s1 sp lb fa ow) (hs : hq_sz tm cnt ops sz) (hok : hq_ok ph) (ht : t < 4) (htm : tm + 1 ≤ 1000) (ho : o < 64) (hoo : oo t = nI o) {p : Int32} (hp : ph t = p) (h0 : ¬ p = 0) (h10 : ¬ 10 < p) (h : hq_OC t tm cnt lim thr cel sz (fun post => wpX_enqueueStep post (nI fc, hq_rf k (nI H), hq_rf k (nI T), nI L, nI (tm + 1), nI cnt, nI (List.length ll), nI lim, nI thr, cN, cX, cV, cS, cO, fs, hz, ph, oo, rA, rB, rC, m, vr, pc, sR, sC, rt, rn, ops, lo, sz) (nI t) p) (fun post => wpY_enqueueStep post (nI cel, nI lim, nI thr, nI (tm + 1), nI H, nI T, nI L, nI cnt, ops, ph, a, b, c, m, s0, s1, sp, lb, fa, ow) (nI t) (nI o) p)) : hq_ST t (fun post => wpX_makeStep post (nI fc, hq_rf k (nI H), hq_rf k (nI T), nI L, nI tm, nI cnt, nI (List.length ll), nI lim, nI thr, cN, cX, cV, cS, cO, fs, hz, ph, oo, rA, rB, rC, m, vr, pc, sR, sC, rt, rn, ops, lo, sz) (nI t)) (fun post => wY_step_67 post (nI t) (nI o) (nI cel) (nI lim) (nI thr) (nI tm) (nI H) (nI T) (nI L) (nI cnt) ops ph a b c m s0 s1 sp lb fa ow) :=
  hq_ST_Y (hs_mk h (fun post hx => hx_makeE ht hp h10 hx)) (fun post hy => hy_67E ht ho htm hp h0 h10 hy)
theorem hs_D (R : hq_RR k ls ll H T L tm cnt fc lim thr cel cN cX cV cS cO fs hz ph oo rA rB rC m vr pc sR sC rt rn ops lo a b c s0 s1 sp lb fa ow) (hs : hq_sz tm cnt ops sz) (hok : hq_ok ph) (ht : t < 4) (htm : tm + 1 ≤ 1000) (ho : o < 64) (hoo : oo t = nI o) {p : Int32} (hp : ph t = p) (h0 : ¬ p = 0) (h10 : 10 < p) (h21 : ¬ 21 < p) (h : hq_OC t tm cnt lim thr cel sz (fun post => wpX_dequeueStep post (nI fc, hq_rf k (nI H), hq_rf k (nI T), nI L, nI (tm + 1), nI cnt, nI (List.length ll), nI lim, nI thr, cN, cX, cV, cS, cO, fs, hz, ph, oo, rA, rB, rC, m, vr, pc, sR, sC, rt, rn, ops, lo, sz) (nI t) p) (fun post => wpY_dequeueStep post (nI cel, nI lim, nI thr, nI (tm + 1), nI H, nI T, nI L, nI cnt, ops, ph, a, b, c, m, s0, s1, sp, lb, fa, ow) (nI t) (nI o) p)) : hq_ST t (fun post => wpX_makeStep post (nI fc, hq_rf k (nI H), hq_rf k (nI T), nI L, nI tm, nI cnt, nI (List.length ll), nI lim, nI thr, cN, cX, cV, cS, cO, fs, hz, ph, oo, rA, rB, rC, m, vr, pc, sR, sC, rt, rn, ops, lo, sz) (nI t)) (fun post => wY_step_67 post (nI t) (nI o) (nI cel) (nI lim) (nI thr) (nI tm) (nI H) (nI T) (nI L) (nI cnt) ops ph a b c m s0 s1 sp lb fa ow) :=
  hq_ST_Y (hs_mk h (fun post hx => hx_makeD ht hp h10 h21 hx)) (fun post hy => hy_67D ht ho htm hp h0 h10 h21 hy)
theorem hs_S (R : hq_RR k ls ll H T L tm cnt fc lim thr cel cN cX cV cS cO fs hz ph oo rA rB rC m vr pc sR sC rt rn ops lo a b c s0 s1 sp lb fa ow) (hs : hq_sz tm cnt ops sz) (hok : hq_ok ph) (ht : t < 4) (htm : tm + 1 ≤ 1000) (ho : o < 64) (hoo : oo t = nI o) {p : Int32} (hp : ph t = p) (h0 : ¬ p = 0) (h10 : 10 < p) (h21 : 21 < p) (h : hq_OC t tm cnt lim thr cel sz (fun post => wpX_scanStep post (nI fc, hq_rf k (nI H), hq_rf k (nI T), nI L, nI (tm + 1), nI cnt, nI (List.length ll), nI lim, nI thr, cN, cX, cV, cS, cO, fs, hz, ph, oo, rA, rB, rC, m, vr, pc, sR, sC, rt, rn, ops, lo, sz) (nI t) p) (fun post => wpY_scanStep post (nI cel, nI lim, nI thr, nI (tm + 1), nI H, nI T, nI L, nI cnt, ops, ph, a, b, c, m, s0, s1, sp, lb, fa, ow) (nI t) (nI o) p)) : hq_ST t (fun post => wpX_makeStep post (nI fc, hq_rf k (nI H), hq_rf k (nI T), nI L, nI tm, nI cnt, nI (List.length ll), nI lim, nI thr, cN, cX, cV, cS, cO, fs, hz, ph, oo, rA, rB, rC, m, vr, pc, sR, sC, rt, rn, ops, lo, sz) (nI t)) (fun post => wY_step_67 post (nI t) (nI o) (nI cel) (nI lim) (nI thr) (nI tm) (nI H) (nI T) (nI L) (nI cnt) ops ph a b c m s0 s1 sp lb fa ow) :=
  hq_ST_Y (hs_mk h (fun post hx => hx_makeS ht hp h10 h21 hx)) (fun post hy => hy_67S ht ho htm hp h0 h10 h21 hy)
theorem hs_all (R : hq_RR k ls ll H T L tm cnt fc lim thr cel cN cX cV cS cO fs hz ph oo rA rB rC m vr pc sR sC rt rn ops lo a b c s0 s1 sp lb fa ow) (hs : hq_sz tm cnt ops sz) (hok : hq_ok ph) (ht : t < 4) (htm : tm + 1 ≤ 1000) (ho : o < 64) (hoo : oo t = nI o) (hne : (ph t).toInt ≠ 0) : hq_ST t (fun post => wpX_makeStep post (nI fc, hq_rf k (nI H), hq_rf k (nI T), nI L, nI tm, nI cnt, nI (List.length ll), nI lim, nI thr, cN, cX, cV, cS, cO, fs, hz, ph, oo, rA, rB, rC, m, vr, pc, sR, sC, rt, rn, ops, lo, sz) (nI t)) (fun post => wY_step_67 post (nI t) (nI o) (nI cel) (nI lim) (nI thr) (nI tm) (nI H) (nI T) (nI L) (nI cnt) ops ph a b c m s0 s1 sp lb fa ow) := by
  have h0 := (R.2.1 t ht).1.1
  rcases hq_ph h0 (hok t ht) with hp | hp | hp | hp | hp | hp | hp | hp | hp | hp | hp | hp | hp | hp | hp | hp | hp | hp | hp | hp | hp | hp | hp | hp
  · rw [hp] at hne; exact absurd hq_i0 hne
  · exact hs_E R hs hok ht htm ho hoo hp (by decide) (by decide) (hs_1 R hs hok ht htm ho hoo hp)
  · exact hs_E R hs hok ht htm ho hoo hp (by decide) (by decide) (hs_2 R hs hok ht htm ho hoo hp)
  · exact hs_E R hs hok ht htm ho hoo hp (by decide) (by decide) (hs_3 R hs hok ht htm ho hoo hp)
  · exact hs_E R hs hok ht htm ho hoo hp (by decide) (by decide) (hs_4 R hs hok ht htm ho hoo hp)
  · exact hs_E R hs hok ht htm ho hoo hp (by decide) (by decide) (hs_5 R hs hok ht htm ho hoo hp)
  · exact hs_E R hs hok ht htm ho hoo hp (by decide) (by decide) (hs_6 R hs hok ht htm ho hoo hp)
  · exact hs_E R hs hok ht htm ho hoo hp (by decide) (by decide) (hs_7 R hs hok ht htm ho hoo hp)
  · exact hs_E R hs hok ht htm ho hoo hp (by decide) (by decide) (hs_8 R hs hok ht htm ho hoo hp)
  · exact hs_E R hs hok ht htm ho hoo hp (by decide) (by decide) (hs_9 R hs hok ht htm ho hoo hp)
  · exact hs_E R hs hok ht htm ho hoo hp (by decide) (by decide) (hs_10 R hs hok ht htm ho hoo hp)
  · exact hs_D R hs hok ht htm ho hoo hp (by decide) (by decide) (by decide) (hs_11 R hs hok ht htm ho hoo hp)
  · exact hs_D R hs hok ht htm ho hoo hp (by decide) (by decide) (by decide) (hs_12 R hs hok ht htm ho hoo hp)
  · exact hs_D R hs hok ht htm ho hoo hp (by decide) (by decide) (by decide) (hs_13 R hs hok ht htm ho hoo hp)
  · exact hs_D R hs hok ht htm ho hoo hp (by decide) (by decide) (by decide) (hs_14 R hs hok ht htm ho hoo hp)
  · exact hs_D R hs hok ht htm ho hoo hp (by decide) (by decide) (by decide) (hs_15 R hs hok ht htm ho hoo hp)
  · exact hs_D R hs hok ht htm ho hoo hp (by decide) (by decide) (by decide) (hs_16 R hs hok ht htm ho hoo hp)
  · exact hs_D R hs hok ht htm ho hoo hp (by decide) (by decide) (by decide) (hs_17 R hs hok ht htm ho hoo hp)
  · exact hs_D R hs hok ht htm ho hoo hp (by decide) (by decide) (by decide) (hs_18 R hs hok ht htm ho hoo hp)
  · exact hs_D R hs hok ht htm ho hoo hp (by decide) (by decide) (by decide) (hs_19 R hs hok ht htm ho hoo hp)
  · exact hs_D R hs hok ht htm ho hoo hp (by decide) (by decide) (by decide) (hs_20 R hs hok ht htm ho hoo hp)
  · exact hs_D R hs hok ht htm ho hoo hp (by decide) (by decide) (by decide) (hs_21 R hs hok ht htm ho hoo hp)
  · exact hs_S R hs hok ht htm ho hoo hp (by decide) (by decide) (by decide) (hs_22 R hs hok ht htm ho hoo hp)
  · exact hs_S R hs hok ht htm ho hoo hp (by decide) (by decide) (by decide) (hs_23 R hs hok ht htm ho hoo hp)
end
end
section
/-! the reference's search for a pending operation; step and run -/
/-- the last number below j with P, or -1 -/
def hq_lp (P : Nat → Bool) : Nat → Int32
  | 0 => -1
  | j + 1 => if P j = true then nI j else hq_lp P j
theorem hq_lp_none {P : Nat → Bool} {N : Nat} (h : ∀ i, i < N → P i = false) : hq_lp P N = -1 := by
  induction N with
  | zero => rfl
  | succ n ih =>
    unfold hq_lp
    rw [h n (by omega), if_neg (by decide)]
    exact ih (fun i hi => h i (by omega))
theorem hq_lp_one {P : Nat → Bool} {N o : Nat} (ho : o < N) (hp : P o = true) (h : ∀ i, i < N → P i = true → i = o) : hq_lp P N = nI o := by
  induction N with
  | zero => omega
  | succ n ih =>
    unfold hq_lp
    by_cases e : P n = true
    · rw [if_pos e, h n (by omega) e]
    · rw [if_neg e]
      have : o ≠ n := fun z => e (by rw [← z]; exact hp)
      exact ih (by omega) (fun i hi => h i (by omega))
def hq_pd (ops : Nat → Int32) (t i : Nat) : Bool := decide (hq_f ops i 1 = nI t ∧ hq_f ops i 3 = 0)
theorem hq_pd_iff {ops : Nat → Int32} {t i : Nat} : hq_pd ops t i = true ↔ hq_f ops i 1 = nI t ∧ hq_f ops i 3 = 0 := decide_eq_true_iff
section
variable {cel lim thr tm yH yT ln cnt : Int32} {ops ph a b c m s0 s1 sp lb fa ow : Nat → Int32} {t o : Nat} {x y r : Int32}
theorem hy_search {post : Int32 → SY → Prop} {cnt : Nat} (hc : cnt ≤ 64) (h : wY_step_67 post (nI t) (hq_lp (hq_pd ops t) cnt) cel lim thr tm yH yT ln (nI cnt) ops ph a b c m s0 s1 sp lb fa ow) : ∀ (d j : Nat), j + d = cnt → wY_step_16 post (nI t) cel lim thr tm yH yT ln (nI cnt) ops ph a b c m s0 s1 sp lb fa ow (d + 1) (hq_lp (hq_pd ops t) j) (nI j) := by
  intro d
  induction d with
  | zero =>
    intro j hj
    rw [show j = cnt by omega]
    unfold wY_step_16
    exact br_t (nI_le (Nat.le_refl _) (by omega)) h
  | succ d ih =>
    intro j hj
    have hn := ih (j + 1) (by omega)
    unfold wY_step_16
    rw [hq_m7, hq_a1, hq_a3, nI_clamp (show 7 * j + 1 < 2 ^ 31 by omega), nI_clamp (show 7 * j + 3 < 2 ^ 31 by omega)]
    refine br_f (nI_ge (by omega) (by omega)) (br_f (nI_ge (b := 64) (by omega) (by decide)) ⟨vp_in_nI (by omega) (by decide), ?_⟩)
    unfold hq_lp at hn
    by_cases e : hq_f ops j 1 = nI t
    · refine br_t e ⟨vp_in_nI (by omega) (by decide), ?_⟩
      by_cases e2 : hq_f ops j 3 = 0
      · rw [if_pos (hq_pd_iff.mpr ⟨e, e2⟩)] at hn
        exact br_t e2 (nm_r (nI_1 j) hn)
      · rw [if_neg (fun z => e2 (hq_pd_iff.mp z).2)] at hn
        exact br_f e2 (nm_r (nI_1 j) hn)
    · rw [if_neg (fun z => e (hq_pd_iff.mp z).1)] at hn
      exact br_f e (nm_r (nI_1 j) hn)
theorem hy_step_67 {post : Int32 → SY → Prop} {cnt : Nat} (ht : t < 4) (hc : cnt ≤ 64) (h : wY_step_67 post (nI t) (hq_lp (hq_pd ops t) cnt) cel lim thr tm yH yT ln (nI cnt) ops ph a b c m s0 s1 sp lb fa ow) : wpY_step post (cel, lim, thr, tm, yH, yT, ln, nI cnt, ops, ph, a, b, c, m, s0, s1, sp, lb, fa, ow) (nI t) := by
  unfold wpY_step
  exact br_f (nI_pos (by omega)) (br_t (nI_le (b := 3) (by omega) (by decide)) ⟨cnt + 1, hy_search hc h cnt 0 (by omega)⟩)
end
section
variable {k : Nat → Nat} {ls : Nat → List Nat} {ll : List Nat} {H T L tm cnt fc lim thr cel : Nat} {cN cX cV cS cO fs hz ph oo rA rB rC m vr pc sR sC rt rn ops lo a b c s0 s1 sp lb fa ow : Nat → Int32} {sz : Nat → Int32} {t o : Nat} {x : Int32}
/-- the search finds the thread's own operation -/
theorem hm_search (R : hq_RR k ls ll H T L tm cnt fc lim thr cel cN cX cV cS cO fs hz ph oo rA rB rC m vr pc sR sC rt rn ops lo a b c s0 s1 sp lb fa ow) (ht : t < 4) (hne : (ph t).toInt ≠ 0) : ∃ o, o < 64 ∧ oo t = nI o ∧ hq_lp (hq_pd ops t) cnt = nI o := by
  have gSc := R.1
  unfold hq_sc at gSc
  obtain ⟨e1, e2, e3, e4⟩ := R.2.2.2.2.2.2.2.2.2.2.2.1
  obtain ⟨o, ho, hoo, hob⟩ := e1 t ht hne
  refine ⟨o, by omega, hoo, hq_lp_one ho (hq_pd_iff.mpr ⟨hob.1, hob.2.1⟩) (fun i hi z => ?_)⟩
  have z' := hq_pd_iff.mp z
  obtain ⟨s, hs, y1, y2, y3⟩ := e2 i hi z'.2
  rw [z'.1, nI_eq (by omega) (by omega)] at y1
  subst y1
  rw [hoo, nI_eq (by omega) (by omega)] at y3
  exact y3.symm
theorem hs_step (R : hq_RR k ls ll H T L tm cnt fc lim thr cel cN cX cV cS cO fs hz ph oo rA rB rC m vr pc sR sC rt rn ops lo a b c s0 s1 sp lb fa ow) (hs : hq_sz tm cnt ops sz) (hok : hq_ok ph) (ht : t < 4) (htm : tm + 1 ≤ 1000) (hne : (ph t).toInt ≠ 0) : hq_ST t (fun post => wpX_makeStep post (nI fc, hq_rf k (nI H), hq_rf k (nI T), nI L, nI tm, nI cnt, nI (List.length ll), nI lim, nI thr, cN, cX, cV, cS, cO, fs, hz, ph, oo, rA, rB, rC, m, vr, pc, sR, sC, rt, rn, ops, lo, sz) (nI t)) (fun post => wpY_step post (nI cel, nI lim, nI thr, nI tm, nI H, nI T, nI L, nI cnt, ops, ph, a, b, c, m, s0, s1, sp, lb, fa, ow) (nI t)) := by
  have gSc := R.1
  unfold hq_sc at gSc
  obtain ⟨o, ho, hoo, hse⟩ := hm_search R ht hne
  exact hq_ST_Y (hs_all R hs hok ht htm ho hoo hne) (fun post h => hy_step_67 ht (by omega) (by rw [hse]; exact h))
/-- the reference's step of an idle thread, or when time is over -/
theorem hy_idle {post : Int32 → SY → Prop} (R : hq_RR k ls ll H T L tm cnt fc lim thr cel cN cX cV cS cO fs hz ph oo rA rB rC m vr pc sR sC rt rn ops lo a b c s0 s1 sp lb fa ow) (ht : t < 4) (h0 : ph t = 0) (h : post (-6) (nI cel, nI lim, nI thr, nI tm, nI H, nI T, nI L, nI cnt, ops, ph, a, b, c, m, s0, s1, sp, lb, fa, ow)) : wpY_step post (nI cel, nI lim, nI thr, nI tm, nI H, nI T, nI L, nI cnt, ops, ph, a, b, c, m, s0, s1, sp, lb, fa, ow) (nI t) := by
  have gSc := R.1
  unfold hq_sc at gSc
  refine hy_step_67 ht (by omega) ?_
  unfold wY_step_67
  rw [hx_c4 ht]
  exact ⟨hx_v4 ht, br_t h0 h⟩
theorem hy_over {post : Int32 → SY → Prop} (R : hq_RR k ls ll H T L tm cnt fc lim thr cel cN cX cV cS cO fs hz ph oo rA rB rC m vr pc sR sC rt rn ops lo a b c s0 s1 sp lb fa ow) (ht : t < 4) (hne : (ph t).toInt ≠ 0) (htm : ¬ tm < 1000) (h : post (-7) (nI cel, nI lim, nI thr, nI tm, nI H, nI T, nI L, nI cnt, ops, ph, a, b, c, m, s0, s1, sp, lb, fa, ow)) : wpY_step post (nI cel, nI lim, nI thr, nI tm, nI H, nI T, nI L, nI cnt, ops, ph, a, b, c, m, s0, s1, sp, lb, fa, ow) (nI t) := by
  have gSc := R.1
  unfold hq_sc at gSc
  obtain ⟨o, ho, hoo, hse⟩ := hm_search R ht hne
  refine hy_step_67 ht (by omega) ?_
  rw [hse]
  unfold wY_step_67
  rw [hx_c4 ht]
  exact ⟨hx_v4 ht, br_f (fun z => hne (by rw [z]; exact hq_i0)) (br_t (nI_pos' (by omega)) (br_f (nI_nlt (b := 1000) (by omega) (by omega)) h))⟩
end
/-- the loops of run from answer r and count i on -/
def hq_RN (t n i : Nat) (r : Int32) (u : SX) (v : SY) : Prop :=
  ∃ (r' : Int32) (u' : SX) (v' : SY), hq_Rx (fun _ => True) u' v' ∧
    (∀ (post : Int32 → SX → Prop) (N : Nat), n < N + i → post r' u' → wX_run_56 post (nI t) (nI n) N r (nI i) u.1 u.2.1 u.2.2.1 u.2.2.2.1 u.2.2.2.2.1 u.2.2.2.2.2.1 u.2.2.2.2.2.2.1 u.2.2.2.2.2.2.2.1 u.2.2.2.2.2.2.2.2.1 u.2.2.2.2.2.2.2.2.2.1 u.2.2.2.2.2.2.2.2.2.2.1 u.2.2.2.2.2.2.2.2.2.2.2.1 u.2.2.2.2.2.2.2.2.2.2.2.2.1 u.2.2.2.2.2.2.2.2.2.2.2.2.2.1 u.2.2.2.2.2.2.2.2.2.2.2.2.2.2.1 u.2.2.2.2.2.2.2.2.2.2.2.2.2.2.2.1 u.2.2.2.2.2.2.2.2.2.2.2.2.2.2.2.2.1 u.2.2.2.2.2.2.2.2.2.2.2.2.2.2.2.2.2.1 u.2.2.2.2.2.2.2.2.2.2.2.2.2.2.2.2.2.2.1 u.2.2.2.2.2.2.2.2.2.2.2.2.2.2.2.2.2.2.2.1 u.2.2.2.2.2.2.2.2.2.2.2.2.2.2.2.2.2.2.2.2.1 u.2.2.2.2.2.2.2.2.2.2.2.2.2.2.2.2.2.2.2.2.2.1 u.2.2.2.2.2.2.2.2.2.2.2.2.2.2.2.2.2.2.2.2.2.2.1 u.2.2.2.2.2.2.2.2.2.2.2.2.2.2.2.2.2.2.2.2.2.2.2.1 u.2.2.2.2.2.2.2.2.2.2.2.2.2.2.2.2.2.2.2.2.2.2.2.2.1 u.2.2.2.2.2.2.2.2.2.2.2.2.2.2.2.2.2.2.2.2.2.2.2.2.2.1 u.2.2.2.2.2.2.2.2.2.2.2.2.2.2.2.2.2.2.2.2.2.2.2.2.2.2.1 u.2.2.2.2.2.2.2.2.2.2.2.2.2.2.2.2.2.2.2.2.2.2.2.2.2.2.2.1 u.2.2.2.2.2.2.2.2.2.2.2.2.2.2.2.2.2.2.2.2.2.2.2.2.2.2.2.2.1 u.2.2.2.2.2.2.2.2.2.2.2.2.2.2.2.2.2.2.2.2.2.2.2.2.2.2.2.2.2.1 u.2.2.2.2.2.2.2.2.2.2.2.2.2.2.2.2.2.2.2.2.2.2.2.2.2.2.2.2.2.2) ∧
    (∀ (post : Int32 → SY → Prop) (N : Nat), n < N + i → post r' v' → wY_run_32 post (nI t) (nI n) N r (nI i) v.1 v.2.1 v.2.2.1 v.2.2.2.1 v.2.2.2.2.1 v.2.2.2.2.2.1 v.2.2.2.2.2.2.1 v.2.2.2.2.2.2.2.1 v.2.2.2.2.2.2.2.2.1 v.2.2.2.2.2.2.2.2.2.1 v.2.2.2.2.2.2.2.2.2.2.1 v.2.2.2.2.2.2.2.2.2.2.2.1 v.2.2.2.2.2.2.2.2.2.2.2.2.1 v.2.2.2.2.2.2.2.2.2.2.2.2.2.1 v.2.2.2.2.2.2.2.2.2.2.2.2.2.2.1 v.2.2.2.2.2.2.2.2.2.2.2.2.2.2.2.1 v.2.2.2.2.2.2.2.2.2.2.2.2.2.2.2.2.1 v.2.2.2.2.2.2.2.2.2.2.2.2.2.2.2.2.2.1 v.2.2.2.2.2.2.2.2.2.2.2.2.2.2.2.2.2.2.1 v.2.2.2.2.2.2.2.2.2.2.2.2.2.2.2.2.2.2.2)
theorem hq_Rx_T {P : (Nat → Int32) → Prop} {u : SX} {v : SY} (I : hq_Rx P u v) : hq_Rx (fun _ => True) u v :=
  hq_Rx_el (Q := fun u v => hq_Rx (fun _ => True) u v) (fun k ls ll H T L tm cnt fc lim thr cel cN cX cV cS cO fs hz ph oo rA rB rC m vr pc sR sC rt rn ops lo a b c s0 s1 sp lb fa ow sz R hs hok _ => hq_Rx_mk R hs hok trivial) I
section
variable {k : Nat → Nat} {ls : Nat → List Nat} {ll : List Nat} {H T L tm cnt fc lim thr cel : Nat} {cN cX cV cS cO fs hz ph oo rA rB rC m vr pc sR sC rt rn ops lo a b c s0 s1 sp lb fa ow : Nat → Int32} {sz : Nat → Int32} {t o : Nat} {x : Int32}
theorem hn_yend {post : Int32 → SY → Prop} {n : Nat} {r : Int32} (hn : n ≤ 32) (hr : ¬ r = 0 ∨ 1000 ≤ tm) (htm : tm ≤ 1000) (h : post r (nI cel, nI lim, nI thr, nI tm, nI H, nI T, nI L, nI cnt, ops, ph, a, b, c, m, s0, s1, sp, lb, fa, ow)) : ∀ (d i N : Nat), i + d = n → n < N + i → wY_run_32 post (nI t) (nI n) N r (nI i) (nI cel) (nI lim) (nI thr) (nI tm) (nI H) (nI T) (nI L) (nI cnt) ops ph a b c m s0 s1 sp lb fa ow := by
  intro d
  induction d with
  | zero =>
    intro i N hi hN
    obtain ⟨N', rfl⟩ : ∃ N', N = N' + 1 := ⟨N - 1, by omega⟩
    unfold wY_run_32
    exact br_t (nI_le (by omega) (by omega)) h
  | succ d ih =>
    intro i N hi hN
    obtain ⟨N', rfl⟩ : ∃ N', N = N' + 1 := ⟨N - 1, by omega⟩
    have hw := ih (i + 1) N' (by omega) (by omega)
    unfold wY_run_32
    refine br_f (nI_ge (by omega) (by omega)) (br_f (nI_ge (b := 32) (by omega) (by decide)) ?_)
    by_cases e : r = 0
    · exact br_t e (br_t (nI_le (a := 1000) (hr.resolve_left (fun z => z e)) (by omega)) (nm_r (nI_1 i) hw))
    · exact br_f e (nm_r (nI_1 i) hw)
end
theorem hn_run {t n : Nat} (ht : t < 4) (hn : n ≤ 32) : ∀ (d i : Nat), i + d = n → ∀ (r : Int32) (u : SX) (v : SY), hq_Rx (fun ph => r = 0 → (ph t).toInt ≠ 0) u v → hq_RN t n i r u v := by
  intro d
  induction d with
  | zero =>
    intro i hi r u v I
    refine ⟨r, u, v, hq_Rx_T I, fun post N hN h => ?_, fun post N hN h => ?_⟩
    · obtain ⟨N', rfl⟩ : ∃ N', N = N' + 1 := ⟨N - 1, by omega⟩
      unfold wX_run_56
      exact br_t (nI_le (by omega) (by omega)) h
    · obtain ⟨N', rfl⟩ : ∃ N', N = N' + 1 := ⟨N - 1, by omega⟩
      unfold wY_run_32
      exact br_t (nI_le (by omega) (by omega)) h
  | succ d ih =>
    intro i hi r u v I
    refine hq_Rx_el (Q := fun u v => hq_RN t n i r u v) ?_ I
    intro k ls ll H T L tm cnt fc lim thr cel cN cX cV cS cO fs hz ph oo rA rB rC m vr pc sR sC rt rn ops lo a b c s0 s1 sp lb fa ow sz R hs hok hP
    have gSc := R.1
    unfold hq_sc at gSc
    by_cases e : r = 0
    · by_cases e2 : tm < 1000
      · obtain ⟨r1, u1, v1, I1, hX, hY⟩ := hs_step R hs hok ht (by omega) (hP e)
        obtain ⟨r', u', v', I', kX, kY⟩ := ih (i + 1) (by omega) r1 u1 v1 I1
        refine ⟨r', u', v', I', fun post N hN h => ?_, fun post N hN h => ?_⟩
        · obtain ⟨N', rfl⟩ : ∃ N', N = N' + 1 := ⟨N - 1, by omega⟩
          unfold wX_run_56
          exact br_f (nI_ge (by omega) (by omega)) (br_t e (br_f (nI_ge (b := 1000) (by omega) (by decide)) (hX _ (nm_r (nI_1 i) (kX post N' (by omega) h)))))
        · obtain ⟨N', rfl⟩ : ∃ N', N = N' + 1 := ⟨N - 1, by omega⟩
          unfold wY_run_32
          exact br_f (nI_ge (by omega) (by omega)) (br_f (nI_ge (b := 32) (by omega) (by decide)) (br_t e (br_f (nI_ge (b := 1000) (by omega) (by decide)) (hY _ (nm_r (nI_1 i) (kY post N' (by omega) h))))))
      · refine ⟨r, _, _, hq_Rx_mk R hs hok trivial, fun post N hN h => ?_, fun post N hN h => ?_⟩
        · obtain ⟨N', rfl⟩ : ∃ N', N = N' + 1 := ⟨N - 1, by omega⟩
          unfold wX_run_56
          exact br_f (nI_ge (by omega) (by omega)) (br_t e (br_t (nI_le (a := 1000) (by omega) (by omega)) h))
        · exact hn_yend hn (Or.inr (by omega)) (by omega) h (d + 1) i N hi hN
    · refine ⟨r, _, _, hq_Rx_mk R hs hok trivial, fun post N hN h => ?_, fun post N hN h => ?_⟩
      · obtain ⟨N', rfl⟩ : ∃ N', N = N' + 1 := ⟨N - 1, by omega⟩
        unfold wX_run_56
        exact br_f (nI_ge (by omega) (by omega)) (br_f e h)
      · exact hn_yend hn (Or.inl e) (by omega) h (d + 1) i N hi hN
end
section
/-! the relation; beginnings, steps and runs -/
def i_Rel (_ : Nat) (u : SX) (v : SY) : Prop := hq_Rx (fun _ => True) u v
theorem i_up {k : Nat} {u : SX} {v : SY} (h : i_Rel k u v) : i_Rel (k + 3) u v := h
theorem hq_thr (v : Int32) : v < 0 ∨ (¬ v < 0 ∧ 3 < v ∧ ¬ v ≤ 3) ∨ ∃ t, t < 4 ∧ v = nI t := by
  by_cases h : v < 0
  · exact Or.inl h
  · by_cases h2 : 3 < v
    · refine Or.inr (Or.inl ⟨h, h2, ?_⟩)
      rw [Int32.lt_iff_toInt_lt] at h2
      rw [Int32.le_iff_toInt_le]
      omega
    · rw [Int32.lt_iff_toInt_lt, hq_i0] at h
      rw [Int32.lt_iff_toInt_lt, hq_i3] at h2
      obtain ⟨n, hn, e⟩ := hq_nle (N := 3) (x := v) (by omega) (by omega)
      exact Or.inr (Or.inr ⟨n, by omega, e⟩)
section
variable {k : Nat → Nat} {ls : Nat → List Nat} {ll : List Nat} {H T L tm cnt fc lim thr cel : Nat} {cN cX cV cS cO fs hz ph oo rA rB rC m vr pc sR sC rt rn ops lo a b c s0 s1 sp lb fa ow : Nat → Int32} {sz : Nat → Int32} {t o : Nat} {x : Int32}
theorem hz_begin {ops' : Nat → Int32} (hs : hq_sz tm cnt ops sz) (f2 : ∀ i g, i < cnt → g < 7 → hq_f ops' i g = hq_f ops i g) (k5 : hq_f ops' cnt 5 = 0) : hq_sz tm (cnt + 1) ops' sz := by
  intro q hq
  rw [hs q hq, hq_cn_succ _ cnt, hq_cn_succ _ cnt]
  have n1 : ¬ hq_we ops' q cnt = true := by
    unfold hq_we
    rw [decide_eq_true_iff, k5, hq_i0]
    omega
  have n2 : ¬ hq_wd ops' q cnt = true := by
    unfold hq_wd
    rw [decide_eq_true_iff, k5, hq_i0]
    omega
  rw [if_neg n1, if_neg n2, Nat.add_zero, Nat.add_zero]
  congr 2
  · exact hq_cn_congr fun i hi => by unfold hq_we; rw [f2 i 0 hi (by omega), f2 i 5 hi (by omega)]
  · exact hq_cn_congr fun i hi => by unfold hq_wd; rw [f2 i 0 hi (by omega), f2 i 2 hi (by omega), f2 i 5 hi (by omega)]
theorem hb_begin {kd vl : Int32} (R : hq_RR k ls ll H T L tm cnt fc lim thr cel cN cX cV cS cO fs hz ph oo rA rB rC m vr pc sR sC rt rn ops lo a b c s0 s1 sp lb fa ow) (hs : hq_sz tm cnt ops sz) (hok : hq_ok ph) (ht : t < 4)
    (hx : (x.toInt = 1 ∧ kd = 1 ∧ 0 ≤ vl.toInt) ∨ (x.toInt = 11 ∧ kd = 2 ∧ vl = -1) ∨ (x.toInt = 22 ∧ kd = 3)) :
    ∃ (r : Int32) (u : SX) (v : SY), hq_Rx (fun _ => True) u v ∧ (∀ post, post r u → wpX_begin post (nI fc, hq_rf k (nI H), hq_rf k (nI T), nI L, nI tm, nI cnt, nI (List.length ll), nI lim, nI thr, cN, cX, cV, cS, cO, fs, hz, ph, oo, rA, rB, rC, m, vr, pc, sR, sC, rt, rn, ops, lo, sz) (nI t) kd vl x) ∧ (∀ post, post r v → wpY_begin post (nI cel, nI lim, nI thr, nI tm, nI H, nI T, nI L, nI cnt, ops, ph, a, b, c, m, s0, s1, sp, lb, fa, ow) (nI t) kd vl x) := by
  have gSc := R.1
  unfold hq_sc at gSc
  by_cases e : ph t = 0
  · by_cases e2 : cnt < lim
    · have hop := R.2.2.2.2.2.2.2.2.2.2.2.1.2.2.1 cnt (Nat.le_refl _) (by omega)
      have hsum : upd (upd (upd (upd (upd (upd (upd ops (7 * cnt + 0) kd) (7 * cnt + 1) (nI t)) (7 * cnt + 2) vl) (7 * cnt + 3) 0) (7 * cnt + 4) (nI tm)) (7 * cnt + 5) 0) (7 * cnt + 6) 0 =
          upd (upd (upd (upd (upd ops (7 * cnt + 0) kd) (7 * cnt + 1) (nI t)) (7 * cnt + 2) vl) (7 * cnt + 3) 0) (7 * cnt + 4) (nI tm) := by
        rw [hq_us' (i := 7 * cnt + 5) (x := 0), hq_us' (i := 7 * cnt + 6) (x := 0)]
        · rw [pk_un (by omega), pk_un (by omega), pk_un (by omega), pk_un (by omega), pk_un (by omega)]; exact hop.2
        · rw [pk_un (by omega), pk_un (by omega), pk_un (by omega), pk_un (by omega), pk_un (by omega)]; exact hop.1
      have fn : ∀ i g, i ≠ cnt → g < 7 → hq_f (upd (upd (upd (upd (upd ops (7 * cnt + 0) kd) (7 * cnt + 1) (nI t)) (7 * cnt + 2) vl) (7 * cnt + 3) 0) (7 * cnt + 4) (nI tm)) i g = hq_f ops i g := fun i g hi hg => by
        rw [hq_fn (by omega) hg (Or.inl hi), hq_fn (by omega) hg (Or.inl hi), hq_fn (by omega) hg (Or.inl hi), hq_fn (by omega) hg (Or.inl hi), hq_fn (by omega) hg (Or.inl hi)]
      have R2 := hm_begin (x := x) (kd := kd) (vl := vl) R ht (by rw [e]; exact hq_i0) e2 (fun i g _ hg hi => fn i g hi hg)
        (by rw [hq_fn (by omega) (by omega) (Or.inr (by omega)), hq_fn (by omega) (by omega) (Or.inr (by omega)), hq_fn (by omega) (by omega) (Or.inr (by omega)), hq_fn (by omega) (by omega) (Or.inr (by omega)), hq_fs])
        (by rw [hq_fn (by omega) (by omega) (Or.inr (by omega)), hq_fn (by omega) (by omega) (Or.inr (by omega)), hq_fn (by omega) (by omega) (Or.inr (by omega)), hq_fs])
        (by rw [hq_fn (by omega) (by omega) (Or.inr (by omega)), hq_fn (by omega) (by omega) (Or.inr (by omega)), hq_fs])
        (by rw [hq_fn (by omega) (by omega) (Or.inr (by omega)), hq_fs])
        (by rw [hq_fn (by omega) (by omega) (Or.inr (by omega)), hq_fn (by omega) (by omega) (Or.inr (by omega)), hq_fn (by omega) (by omega) (Or.inr (by omega)), hq_fn (by omega) (by omega) (Or.inr (by omega)), hq_fn (by omega) (by omega) (Or.inr (by omega))]; exact hop.1) hx
      refine ⟨nI cnt, _, _, hq_Rx_mk R2 (hz_begin hs (fun i g hi hg => fn i g (by omega) hg) ?_) (hq_ok_u hok (by omega)) trivial, fun post h => ?_, fun post h => ?_⟩
      · rw [hq_fn (by omega) (by omega) (Or.inr (by omega)), hq_fn (by omega) (by omega) (Or.inr (by omega)), hq_fn (by omega) (by omega) (Or.inr (by omega)), hq_fn (by omega) (by omega) (Or.inr (by omega)), hq_fn (by omega) (by omega) (Or.inr (by omega))]; exact hop.1
      · rw [← hsum] at h
        unfold wpX_begin
        dsimp only
        rw [hx_c4 ht]
        refine ⟨hx_v4 ht, br_t e (br_t (nI_lt e2 (by omega)) (nm_r (nI_1 cnt) ?_))⟩
        refine hx_setField 0 (by omega) (by omega) ?_
        refine hx_setField 1 (by omega) (by omega) ?_
        refine hx_setField 2 (by omega) (by omega) ?_
        refine hx_setField 3 (by omega) (by omega) ?_
        refine hx_setField 4 (by omega) (by omega) ?_
        refine hx_setField 5 (by omega) (by omega) ?_
        refine hx_setField 6 (by omega) (by omega) ?_
        exact ⟨hx_v4 ht, nm_e ⟨hx_v4 ht, nm_e h⟩⟩
      · unfold wpY_begin
        dsimp only
        rw [hx_c4 ht, hq_m7, hq_a0, hq_a1, hq_a2, hq_a3, hq_a4, nI_clamp (show 7 * cnt + 0 < 2 ^ 31 by omega), nI_clamp (show 7 * cnt + 1 < 2 ^ 31 by omega), nI_clamp (show 7 * cnt + 2 < 2 ^ 31 by omega), nI_clamp (show 7 * cnt + 3 < 2 ^ 31 by omega), nI_clamp (show 7 * cnt + 4 < 2 ^ 31 by omega)]
        refine ⟨hx_v4 ht, br_t e (br_f (nI_ge e2 (by omega)) (br_t (nI_lt (b := 64) (by omega) (by decide)) ?_))⟩
        refine ⟨vp_in_nI (by omega) (by decide), nm_e ⟨vp_in_nI (by omega) (by decide), nm_e ⟨vp_in_nI (by omega) (by decide), nm_e ⟨vp_in_nI (by omega) (by decide), nm_e ⟨vp_in_nI (by omega) (by decide), nm_e ⟨hx_v4 ht, nm_e (nm_r (nI_1 cnt) ?_)⟩⟩⟩⟩⟩⟩
        rw [nI_pred]
        exact h
    · refine ⟨-5, _, _, hq_Rx_mk R hs hok trivial, fun post h => ?_, fun post h => ?_⟩
      · unfold wpX_begin
        dsimp only
        rw [hx_c4 ht]
        exact ⟨hx_v4 ht, br_t e (br_f (nI_nlt (by omega) (by omega)) h)⟩
      · unfold wpY_begin
        dsimp only
        rw [hx_c4 ht]
        exact ⟨hx_v4 ht, br_t e (br_t (nI_le (by omega) (by omega)) h)⟩
  · refine ⟨-4, _, _, hq_Rx_mk R hs hok trivial, fun post h => ?_, fun post h => ?_⟩
    · unfold wpX_begin
      dsimp only
      rw [hx_c4 ht]
      exact ⟨hx_v4 ht, br_f e h⟩
    · unfold wpY_begin
      dsimp only
      rw [hx_c4 ht]
      exact ⟨hx_v4 ht, br_f e h⟩
end
theorem i_vc_beginEnqueue {k : Nat} {u : SX} {v : SY} (I : i_Rel k u v) (hk : k + 3 ≤ 1539) (v1 : Int32) (v2 : Int32) : wpX_beginEnqueue (fun r u' => wpY_beginEnqueue (fun r' v' => r' = r ∧ i_Rel (k + 3) u' v') v v1 v2) u v1 v2 := by
  refine hq_Rx_el (Q := fun u v => wpX_beginEnqueue (fun r u' => wpY_beginEnqueue (fun r' v' => r' = r ∧ i_Rel (k + 3) u' v') v v1 v2) u v1 v2) ?_ I
  intro k ls ll H T L tm cnt fc lim thr cel cN cX cV cS cO fs hz ph oo rA rB rC m vr pc sR sC rt rn ops lo a b c s0 s1 sp lb fa ow sz R hs hok _
  have I0 := hq_Rx_mk R hs hok trivial (P := fun _ => True)
  unfold wpX_beginEnqueue wpY_beginEnqueue
  rcases hq_thr v1 with h | ⟨h, h2, _⟩ | ⟨t, ht, rfl⟩
  · exact br_t h (br_t h ⟨rfl, I0⟩)
  · exact br_f h (br_t h2 (br_f h (br_t h2 ⟨rfl, I0⟩)))
  · have h0 : ¬ nI t < 0 := nI_pos (by omega)
    have h3 : ¬ 3 < nI t := nI_nlt (a := 3) (by omega) (by decide)
    by_cases e : 0 ≤ v2
    · obtain ⟨r, u', v', I', hX, hY⟩ := hb_begin (x := 1) (kd := 1) (vl := v2) R hs hok ht (Or.inl ⟨hq_i1, rfl, by rw [Int32.le_iff_toInt_le, hq_i0] at e; exact e⟩)
      exact br_f h0 (br_f h3 (br_t e (hX _ (br_f h0 (br_f h3 (br_t e (hY _ ⟨rfl, I'⟩)))))))
    · exact br_f h0 (br_f h3 (br_f e (br_f h0 (br_f h3 (br_f e ⟨rfl, I0⟩)))))
theorem i_vc_beginDequeue {k : Nat} {u : SX} {v : SY} (I : i_Rel k u v) (hk : k + 3 ≤ 1539) (v1 : Int32) : wpX_beginDequeue (fun r u' => wpY_beginDequeue (fun r' v' => r' = r ∧ i_Rel (k + 3) u' v') v v1) u v1 := by
  refine hq_Rx_el (Q := fun u v => wpX_beginDequeue (fun r u' => wpY_beginDequeue (fun r' v' => r' = r ∧ i_Rel (k + 3) u' v') v v1) u v1) ?_ I
  intro k ls ll H T L tm cnt fc lim thr cel cN cX cV cS cO fs hz ph oo rA rB rC m vr pc sR sC rt rn ops lo a b c s0 s1 sp lb fa ow sz R hs hok _
  have I0 := hq_Rx_mk R hs hok trivial (P := fun _ => True)
  unfold wpX_beginDequeue wpY_beginDequeue
  rcases hq_thr v1 with h | ⟨h, _, h2⟩ | ⟨t, ht, rfl⟩
  · exact br_t h (br_t h ⟨rfl, I0⟩)
  · exact br_f h (br_f h2 (br_f h (br_f h2 ⟨rfl, I0⟩)))
  · have h0 : ¬ nI t < 0 := nI_pos (by omega)
    have h3 : nI t ≤ 3 := nI_le (b := 3) (by omega) (by decide)
    obtain ⟨r, u', v', I', hX, hY⟩ := hb_begin (x := 11) (kd := 2) (vl := -1) R hs hok ht (Or.inr (Or.inl ⟨hq_i11, rfl, rfl⟩))
    exact br_f h0 (br_t h3 (hX _ (br_f h0 (br_t h3 (hY _ ⟨rfl, I'⟩)))))
theorem i_vc_beginScan {k : Nat} {u : SX} {v : SY} (I : i_Rel k u v) (hk : k + 3 ≤ 1539) (v1 : Int32) : wpX_beginScan (fun r u' => wpY_beginScan (fun r' v' => r' = r ∧ i_Rel (k + 3) u' v') v v1) u v1 := by
  refine hq_Rx_el (Q := fun u v => wpX_beginScan (fun r u' => wpY_beginScan (fun r' v' => r' = r ∧ i_Rel (k + 3) u' v') v v1) u v1) ?_ I
  intro k ls ll H T L tm cnt fc lim thr cel cN cX cV cS cO fs hz ph oo rA rB rC m vr pc sR sC rt rn ops lo a b c s0 s1 sp lb fa ow sz R hs hok _
  have I0 := hq_Rx_mk R hs hok trivial (P := fun _ => True)
  unfold wpX_beginScan wpY_beginScan
  rcases hq_thr v1 with h | ⟨h, _, h2⟩ | ⟨t, ht, rfl⟩
  · exact br_t h (br_t h ⟨rfl, I0⟩)
  · exact br_f h (br_f h2 (br_f h (br_f h2 ⟨rfl, I0⟩)))
  · have h0 : ¬ nI t < 0 := nI_pos (by omega)
    have h3 : nI t ≤ 3 := nI_le (b := 3) (by omega) (by decide)
    obtain ⟨r, u', v', I', hX, hY⟩ := hb_begin (x := 22) (kd := 3) (vl := -1) R hs hok ht (Or.inr (Or.inr ⟨hq_i22, rfl⟩))
    exact br_f h0 (br_t h3 (hX _ (br_f h0 (br_t h3 (hY _ ⟨rfl, I'⟩)))))
theorem i_vc_step {k : Nat} {u : SX} {v : SY} (I : i_Rel k u v) (hk : k + 3 ≤ 1539) (v1 : Int32) : wpX_step (fun r u' => wpY_step (fun r' v' => r' = r ∧ i_Rel (k + 3) u' v') v v1) u v1 := by
  refine hq_Rx_el (Q := fun u v => wpX_step (fun r u' => wpY_step (fun r' v' => r' = r ∧ i_Rel (k + 3) u' v') v v1) u v1) ?_ I
  intro k ls ll H T L tm cnt fc lim thr cel cN cX cV cS cO fs hz ph oo rA rB rC m vr pc sR sC rt rn ops lo a b c s0 s1 sp lb fa ow sz R hs hok _
  have I0 := hq_Rx_mk R hs hok trivial (P := fun _ => True)
  have gSc := R.1
  unfold hq_sc at gSc
  unfold wpX_step
  rcases hq_thr v1 with h | ⟨h, _, h2⟩ | ⟨t, ht, rfl⟩
  · exact br_t h (br_t h ⟨rfl, I0⟩)
  · exact br_f h (br_f h2 (br_f h (br_f h2 ⟨rfl, I0⟩)))
  · have h0 : ¬ nI t < 0 := nI_pos (by omega)
    have h3 : nI t ≤ 3 := nI_le (b := 3) (by omega) (by decide)
    dsimp only
    rw [hx_c4 ht]
    refine br_f h0 (br_t h3 ⟨hx_v4 ht, ?_⟩)
    by_cases e : ph t = 0
    · exact br_t e (hy_idle R ht e ⟨rfl, I0⟩)
    · have hne : (ph t).toInt ≠ 0 := fun z => e (hq_inj (by rw [z, hq_i0]))
      refine br_f e ?_
      by_cases e2 : tm < 1000
      · obtain ⟨r, u', v', I', hX, hY⟩ := hs_step R hs hok ht (by omega) hne
        exact br_t (nI_lt (b := 1000) e2 (by decide)) (hX _ (hY _ ⟨rfl, hq_Rx_T I'⟩))
      · exact br_f (nI_nlt (b := 1000) (by omega) (by omega)) (hy_over R ht hne e2 ⟨rfl, I0⟩)
theorem i_vc_run {k : Nat} {u : SX} {v : SY} (I : i_Rel k u v) (hk : k + 3 ≤ 1539) (v1 : Int32) (v2 : Int32) : wpX_run (fun r u' => wpY_run (fun r' v' => r' = r ∧ i_Rel (k + 3) u' v') v v1 v2) u v1 v2 := by
  refine hq_Rx_el (Q := fun u v => wpX_run (fun r u' => wpY_run (fun r' v' => r' = r ∧ i_Rel (k + 3) u' v') v v1 v2) u v1 v2) ?_ I
  intro k ls ll H T L tm cnt fc lim thr cel cN cX cV cS cO fs hz ph oo rA rB rC m vr pc sR sC rt rn ops lo a b c s0 s1 sp lb fa ow sz R hs hok _
  have I0 := hq_Rx_mk R hs hok trivial (P := fun _ => True)
  have gSc := R.1
  unfold hq_sc at gSc
  unfold wpX_run wpY_run
  rcases hq_thr v1 with h | ⟨h, h2, h2'⟩ | ⟨t, ht, rfl⟩
  · exact br_t h (br_t h ⟨rfl, I0⟩)
  · exact br_f h (br_f h2' (br_f h (br_t h2 ⟨rfl, I0⟩)))
  · have h0 : ¬ nI t < 0 := nI_pos (by omega)
    have h3 : nI t ≤ 3 := nI_le (b := 3) (by omega) (by decide)
    have h3' : ¬ 3 < nI t := nI_nlt (a := 3) (by omega) (by decide)
    by_cases q1 : v2 < 1
    · exact br_f h0 (br_t h3 (br_t q1 (br_f h0 (br_f h3' (br_t q1 ⟨rfl, I0⟩)))))
    · by_cases q2 : v2 ≤ 32
      · have q1' := q1
        have q2' := q2
        rw [Int32.lt_iff_toInt_lt, hq_i1] at q1'
        rw [Int32.le_iff_toInt_le, show (32 : Int32).toInt = 32 from by decide] at q2'
        obtain ⟨n, hn, rfl⟩ := hq_nle (N := 32) (x := v2) (by omega) q2'
        rw [nI_toInt (by omega)] at q1'
        dsimp only
        rw [hx_c4 ht]
        refine br_f h0 (br_t h3 (br_f q1 (br_t q2 ⟨hx_v4 ht, ?_⟩)))
        by_cases e : ph t = 0
        · exact br_t e (br_f h0 (br_f h3' (br_f q1 (br_t q2 (hy_idle R ht e ⟨n + 1, hn_yend (n := n) (r := -6) hn (Or.inl (by decide)) (by omega) ⟨rfl, I0⟩ (n - 1) 1 (n + 1) (by omega) (by omega)⟩)))))
        · have hne : (ph t).toInt ≠ 0 := fun z => e (hq_inj (by rw [z, hq_i0]))
          refine br_f e ?_
          by_cases e2 : tm < 1000
          · obtain ⟨r1, u1, v1, I1, hX, hY⟩ := hs_step R hs hok ht (by omega) hne
            obtain ⟨r', u', v', I', kX, kY⟩ := hn_run ht hn (n - 1) 1 (by omega) r1 u1 v1 I1
            refine br_t (nI_lt (b := 1000) e2 (by decide)) ⟨n + 1, ?_⟩
            unfold wX_run_56
            refine br_f (nI_ge (a := 0) (by omega) (by omega)) (br_t rfl (br_f (nI_ge (b := 1000) (by omega) (by decide)) (hX _ (nm_r (nI_1 0) (kX _ n (by omega) ?_)))))
            exact br_f h0 (br_f h3' (br_f q1 (br_t q2 (hY _ ⟨n + 1, kY _ (n + 1) (by omega) ⟨rfl, I'⟩⟩))))
          · exact br_f (nI_nlt (b := 1000) (by omega) (by omega)) (br_f h0 (br_f h3' (br_f q1 (br_t q2 (hy_over R ht hne e2 ⟨n + 1, hn_yend (n := n) (r := -7) hn (Or.inl (by decide)) (by omega) ⟨rfl, I0⟩ (n - 1) 1 (n + 1) (by omega) (by omega)⟩)))))
      · exact br_f h0 (br_t h3 (br_f q1 (br_f q2 (br_f h0 (br_f h3' (br_f q1 (br_f q2 ⟨rfl, I0⟩)))))))
end
section
/-! the methods that only read -/
section
variable {k : Nat → Nat} {ls : Nat → List Nat} {ll : List Nat} {H T L tm cnt fc lim thr cel : Nat} {cN cX cV cS cO fs hz ph oo rA rB rC m vr pc sR sC rt rn ops lo a b c s0 s1 sp lb fa ow : Nat → Int32} {sz : Nat → Int32} {t o : Nat} {x : Int32}
theorem hr_num {post : Int32 → Prop} (R : hq_RR k ls ll H T L tm cnt fc lim thr cel cN cX cV cS cO fs hz ph oo rA rB rC m vr pc sR sC rt rn ops lo a b c s0 s1 sp lb fa ow) (hx : x.toInt ≤ L) (h : post x) : wpX_numberOf post (nI fc, hq_rf k (nI H), hq_rf k (nI T), nI L, nI tm, nI cnt, nI (List.length ll), nI lim, nI thr, cN, cX, cV, cS, cO, fs, hz, ph, oo, rA, rB, rC, m, vr, pc, sR, sC, rt, rn, ops, lo, sz) (hq_rf k x) := by
  have gSc := R.1
  unfold hq_sc at gSc
  exact hx_numberOf_rf (L := L) (by omega) R.2.2.1.1 hx h
/-- the cell of a number -/
theorem hr_find (R : hq_RR k ls ll H T L tm cnt fc lim thr cel cN cX cV cS cO fs hz ph oo rA rB rC m vr pc sR sC rt rn ops lo a b c s0 s1 sp lb fa ow) {n : Nat} (hn : n ≤ 64) : (hq_hl H L fa n = true → ∀ post : Int32 → Prop, post (nI (k n)) → wpX_findCell post (nI fc, hq_rf k (nI H), hq_rf k (nI T), nI L, nI tm, nI cnt, nI (List.length ll), nI lim, nI thr, cN, cX, cV, cS, cO, fs, hz, ph, oo, rA, rB, rC, m, vr, pc, sR, sC, rt, rn, ops, lo, sz) (nI n)) ∧ (¬ hq_hl H L fa n = true → ∀ post : Int32 → Prop, post (-1) → wpX_findCell post (nI fc, hq_rf k (nI H), hq_rf k (nI T), nI L, nI tm, nI cnt, nI (List.length ll), nI lim, nI thr, cN, cX, cV, cS, cO, fs, hz, ph, oo, rA, rB, rC, m, vr, pc, sR, sC, rt, rn, ops, lo, sz) (nI n)) := by
  have gSc := R.1
  unfold hq_sc at gSc
  obtain ⟨g1, g2, g3⟩ := R.2.2.2.1
  obtain ⟨r, hr, hw⟩ := @hx_findCell (nI fc) (hq_rf k (nI H)) (hq_rf k (nI T)) (nI L) (nI tm) (nI cnt) (nI (List.length ll)) (nI lim) (nI thr) cN cX cV cS cO fs hz ph oo rA rB rC m vr pc sR sC rt rn ops lo sz (nI n)
  have key : ∀ i, i < 16 → cN i = nI n → hq_hl H L fa n = true ∧ k n = i := by
    intro i hi e
    rcases g2 i hi with z | ⟨n', z1, z2⟩
    · rw [e] at z; exact absurd z.symm (hq_m1n (by omega))
    · have h1 := (g1 n' z1).1
      have h2 := (hq_hl_iff.mp z1).1
      rw [z2, e, nI_eq (by omega) (by omega)] at h1
      rw [h1]
      exact ⟨z1, z2⟩
  rcases hr with ⟨e1, e2⟩ | ⟨i, hi, e1, e2⟩
  · refine ⟨fun h => ?_, fun _ => by rw [← e1]; exact hw⟩
    exact absurd (g1 n h).1 (e2 (k n) (R.2.2.1.1 n (hq_hl_iff.mp h).1))
  · obtain ⟨q1, q2⟩ := key i hi e2
    refine ⟨fun _ => ?_, fun h => absurd q1 h⟩
    rw [q2, ← e1]
    exact hw
theorem hr_state (R : hq_RR k ls ll H T L tm cnt fc lim thr cel cN cX cV cS cO fs hz ph oo rA rB rC m vr pc sR sC rt rn ops lo a b c s0 s1 sp lb fa ow) {n : Nat} (hn : n ≤ L) : ∀ post : Int32 → Prop, post (hq_ns H L fa n) → wpX_nodeState post (nI fc, hq_rf k (nI H), hq_rf k (nI T), nI L, nI tm, nI cnt, nI (List.length ll), nI lim, nI thr, cN, cX, cV, cS, cO, fs, hz, ph, oo, rA, rB, rC, m, vr, pc, sR, sC, rt, rn, ops, lo, sz) (nI n) := by
  intro post h
  have gSc := R.1
  unfold hq_sc at gSc
  obtain ⟨g1, g2, g3⟩ := R.2.2.2.1
  obtain ⟨f1, f2⟩ := hr_find (sz := sz) R (show n ≤ 64 by omega)
  unfold hq_ns at h
  rw [if_pos hn] at h
  unfold wpX_nodeState
  refine br_f (nI_pos (by omega)) (br_t (nI_le hn (by omega)) (hr_num R (by rw [nI_toInt (by omega)]; omega) ?_))
  by_cases e : n < H
  · rw [if_pos e] at h
    refine br_t (nI_lt e (by omega)) ?_
    by_cases e2 : hq_hl H L fa n = true
    · have hk16 := R.2.2.1.1 n hn
      refine f1 e2 _ (br_f (fun z => hq_m1n (by omega) z.symm) ⟨vp_in_nI hk16 (by decide), ?_⟩)
      rw [nI_clamp (by omega), ((g1 n e2).2.2.1 e).1]
      exact h
    · refine f2 e2 _ (br_t rfl ?_)
      rcases g3 n e with z | z | z
      · exact absurd (hq_hl_iff.mpr ⟨hn, Or.inr (Or.inl z)⟩) e2
      · exact absurd (hq_hl_iff.mpr ⟨hn, Or.inr (Or.inr z)⟩) e2
      · rw [z] at h; exact h
  · rw [if_neg e] at h
    exact br_f (nI_nlt (by omega) (by omega)) h
theorem hr_owner (R : hq_RR k ls ll H T L tm cnt fc lim thr cel cN cX cV cS cO fs hz ph oo rA rB rC m vr pc sR sC rt rn ops lo a b c s0 s1 sp lb fa ow) {n : Nat} (hn : n < H) (hf : fa n = 2 ∨ fa n = 3) {post : Int32 → Prop} (h : post (ow n)) : wX_nodeOwner_18 post (nI n) (nI fc) (hq_rf k (nI H)) (hq_rf k (nI T)) (nI L) (nI tm) (nI cnt) (nI (List.length ll)) (nI lim) (nI thr) cN cX cV cS cO fs hz ph oo rA rB rC m vr pc sR sC rt rn ops lo sz := by
  have gSc := R.1
  unfold hq_sc at gSc
  obtain ⟨g1, g2, g3⟩ := R.2.2.2.1
  have e2 : hq_hl H L fa n = true := hq_hl_iff.mpr ⟨by omega, Or.inr hf⟩
  have hk16 := R.2.2.1.1 n (by omega)
  unfold wX_nodeOwner_18
  refine (hr_find R (show n ≤ 64 by omega)).1 e2 _ (br_f (fun z => hq_m1n (by omega) z.symm) ⟨vp_in_nI hk16 (by decide), ?_⟩)
  rw [nI_clamp (by omega), ((g1 n e2).2.2.1 hn).2]
  exact h
theorem hr_elem (R : hq_RR k ls ll H T L tm cnt fc lim thr cel cN cX cV cS cO fs hz ph oo rA rB rC m vr pc sR sC rt rn ops lo a b c s0 s1 sp lb fa ow) {i : Nat} (hi : i < L - H) {post : Int32 → Prop} (h : post (hq_vl ops lb (H + 1 + i))) : ∀ (d j : Nat), j + d = i + 1 → wX_element_33 post (nI i) (nI fc) (hq_rf k (nI H)) (hq_rf k (nI T)) (nI L) (nI tm) (nI cnt) (nI (List.length ll)) (nI lim) (nI thr) cN cX cV cS cO fs hz ph oo rA rB rC m vr pc sR sC rt rn ops lo sz (d + 1) (hq_rf k (nI (H + j))) (nI j) := by
  have gSc := R.1
  unfold hq_sc at gSc
  obtain ⟨g1, g2, g3⟩ := R.2.2.2.1
  intro d
  induction d with
  | zero =>
    intro j hj
    have hk16 := R.2.2.1.1 (H + j) (by omega)
    have hh : hq_hl H L fa (H + j) = true := hq_hl_iff.mpr ⟨by omega, Or.inl (by omega)⟩
    unfold wX_element_33
    refine br_t (nI_lt (by omega) (by omega)) ?_
    rw [hq_rf_n (by omega), hq_and15 (by omega) hk16, nI_clamp (show k (H + j) < 2 ^ 31 by omega)]
    refine br_t (nI_pos' (by omega)) ⟨vp_in_nI hk16 (by decide), ?_⟩
    rw [(g1 (H + j) hh).2.2.2 (by omega), show H + j = H + 1 + i by omega]
    exact h
  | succ d ih =>
    intro j hj
    have hh : hq_hl H L fa (H + j) = true := hq_hl_iff.mpr ⟨by omega, Or.inl (by omega)⟩
    have hw := ih (j + 1) (by omega)
    unfold wX_element_33
    refine br_f (nI_nlt (by omega) (by omega)) (hm_next R hh _ (nm_r (nI_1 j) ?_))
    rw [if_pos (by omega)]
    exact hw
end
theorem i_vc_phase {k : Nat} {u : SX} {v : SY} (I : i_Rel k u v) (hk : k + 3 ≤ 1539) (v1 : Int32) : wpX_phase (fun r => wpY_phase (fun r' => r' = r ∧ i_Rel (k + 3) u v) v v1) u v1 := by
  refine hq_Rx_el (Q := fun u v => wpX_phase (fun r => wpY_phase (fun r' => r' = r ∧ i_Rel (k + 3) u v) v v1) u v1) ?_ I
  intro k ls ll H T L tm cnt fc lim thr cel cN cX cV cS cO fs hz ph oo rA rB rC m vr pc sR sC rt rn ops lo a b c s0 s1 sp lb fa ow sz R hs hok _
  have I0 := hq_Rx_mk R hs hok trivial (P := fun _ => True)
  unfold wpX_phase wpY_phase
  rcases hq_thr v1 with h | ⟨h, _, h2⟩ | ⟨t, ht, rfl⟩
  · exact br_t h (br_t h ⟨rfl, I0⟩)
  · exact br_f h (br_f h2 (br_f h (br_f h2 ⟨rfl, I0⟩)))
  · have h0 : ¬ nI t < 0 := nI_pos (by omega)
    have h3 : nI t ≤ 3 := nI_le (b := 3) (by omega) (by decide)
    exact br_f h0 (br_t h3 ⟨hx_v4 ht, br_f h0 (br_t h3 ⟨hx_v4 ht, rfl, I0⟩)⟩)
theorem i_vc_local {k : Nat} {u : SX} {v : SY} (I : i_Rel k u v) (hk : k + 3 ≤ 1539) (v1 : Int32) (v2 : Int32) : wpX_local (fun r => wpY_local (fun r' => r' = r ∧ i_Rel (k + 3) u v) v v1 v2) u v1 v2 := by
  refine hq_Rx_el (Q := fun u v => wpX_local (fun r => wpY_local (fun r' => r' = r ∧ i_Rel (k + 3) u v) v v1 v2) u v1 v2) ?_ I
  intro k ls ll H T L tm cnt fc lim thr cel cN cX cV cS cO fs hz ph oo rA rB rC m vr pc sR sC rt rn ops lo a b c s0 s1 sp lb fa ow sz R hs hok _
  have I0 := hq_Rx_mk R hs hok trivial (P := fun _ => True)
  unfold wpX_local wpY_local
  rcases hq_thr v1 with h | ⟨h, h2, _⟩ | ⟨t, ht, rfl⟩
  · exact br_t h (br_t h ⟨rfl, I0⟩)
  · exact br_f h (br_t h2 (br_f h (br_t h2 ⟨rfl, I0⟩)))
  · have h0 : ¬ nI t < 0 := nI_pos (by omega)
    have h3 : ¬ 3 < nI t := nI_nlt (a := 3) (by omega) (by decide)
    have rg := hq_LO_rg (R.2.1 t ht)
    dsimp only
    rw [hx_c4 ht]
    by_cases q1 : v2 < 0
    · exact br_f h0 (br_f h3 (br_t q1 (br_f h0 (br_f h3 (br_t q1 ⟨rfl, I0⟩)))))
    · by_cases q2 : v2 ≤ 3
      · refine br_f h0 (br_f h3 (br_f q1 (br_t q2 ?_)))
        by_cases e0 : v2 = 0
        · refine br_t e0 ⟨hx_v4 ht, ?_⟩
          rw [hm_rA R ht]
          exact hr_num R rg.1.2 (br_f h0 (br_f h3 (br_f q1 (br_t q2 (br_t e0 ⟨hx_v4 ht, rfl, I0⟩)))))
        · by_cases e1 : v2 = 1
          · refine br_f e0 (br_t e1 ⟨hx_v4 ht, ?_⟩)
            rw [hm_rB R ht]
            exact hr_num R rg.2.1.2 (br_f h0 (br_f h3 (br_f q1 (br_t q2 (br_f e0 (br_t e1 ⟨hx_v4 ht, rfl, I0⟩))))))
          · by_cases e2 : v2 = 2
            · refine br_f e0 (br_f e1 (br_t e2 ⟨hx_v4 ht, ?_⟩))
              rw [hm_rC R ht]
              exact hr_num R rg.2.2.1.2 (br_f h0 (br_f h3 (br_f q1 (br_t q2 (br_f e0 (br_f e1 (br_t e2 ⟨hx_v4 ht, rfl, I0⟩)))))))
            · exact br_f e0 (br_f e1 (br_f e2 ⟨hx_v4 ht, br_f h0 (br_f h3 (br_f q1 (br_t q2 (br_f e0 (br_f e1 (br_f e2 ⟨hx_v4 ht, rfl, I0⟩))))))⟩))
      · exact br_f h0 (br_f h3 (br_f q1 (br_f q2 (br_f h0 (br_f h3 (br_f q1 (br_f q2 ⟨rfl, I0⟩)))))))
theorem i_vc_hazard {k : Nat} {u : SX} {v : SY} (I : i_Rel k u v) (hk : k + 3 ≤ 1539) (v1 : Int32) (v2 : Int32) : wpX_hazard (fun r => wpY_hazard (fun r' => r' = r ∧ i_Rel (k + 3) u v) v v1 v2) u v1 v2 := by
  refine hq_Rx_el (Q := fun u v => wpX_hazard (fun r => wpY_hazard (fun r' => r' = r ∧ i_Rel (k + 3) u v) v v1 v2) u v1 v2) ?_ I
  intro k ls ll H T L tm cnt fc lim thr cel cN cX cV cS cO fs hz ph oo rA rB rC m vr pc sR sC rt rn ops lo a b c s0 s1 sp lb fa ow sz R hs hok _
  have I0 := hq_Rx_mk R hs hok trivial (P := fun _ => True)
  unfold wpX_hazard wpY_hazard
  rcases hq_thr v1 with h | ⟨h, h2, _⟩ | ⟨t, ht, rfl⟩
  · exact br_t h (br_t h ⟨rfl, I0⟩)
  · exact br_f h (br_t h2 (br_f h (br_t h2 ⟨rfl, I0⟩)))
  · have h0 : ¬ nI t < 0 := nI_pos (by omega)
    have h3 : ¬ 3 < nI t := nI_nlt (a := 3) (by omega) (by decide)
    have rg := hq_LO_rg (R.2.1 t ht)
    have hz0 := R.2.2.1.2.2.2.2.1 t ht
    have hz1 := R.2.2.1.2.2.2.2.2.1 t ht
    dsimp only
    rw [hx_c4 ht, hq_m2]
    by_cases q1 : v2 < 0
    · exact br_f h0 (br_f h3 (br_t q1 (br_f h0 (br_f h3 (br_t q1 ⟨rfl, I0⟩)))))
    · by_cases q2 : v2 ≤ 1
      · have q1' := q1
        have q2' := q2
        rw [Int32.lt_iff_toInt_lt, hq_i0] at q1'
        rw [Int32.le_iff_toInt_le, hq_i1] at q2'
        obtain ⟨n, hn, rfl⟩ := hq_nle (N := 1) (x := v2) (by omega) q2'
        rw [nI_add, nI_clamp (show 2 * t + n < 2 ^ 31 by omega)]
        refine br_f h0 (br_f h3 (br_f q1 (br_t q2 ⟨vp_in_nI (by omega) (by decide), ?_⟩)))
        by_cases e : n = 0
        · subst e
          rw [show 2 * t + 0 = 2 * t from rfl, hz0]
          exact hr_num R rg.2.2.2.1.2 (br_f h0 (br_f h3 (br_f q1 (br_t q2 (br_t rfl ⟨hx_v4 ht, rfl, I0⟩)))))
        · have e1 : n = 1 := by omega
          subst e1
          rw [hz1]
          exact hr_num R rg.2.2.2.2.2 (br_f h0 (br_f h3 (br_f q1 (br_t q2 (br_f (by decide) ⟨hx_v4 ht, rfl, I0⟩)))))
      · exact br_f h0 (br_f h3 (br_f q1 (br_f q2 (br_f h0 (br_f h3 (br_f q1 (br_f q2 ⟨rfl, I0⟩)))))))
theorem i_vc_snapshot {k : Nat} {u : SX} {v : SY} (I : i_Rel k u v) (hk : k + 3 ≤ 1539) (v1 : Int32) (v2 : Int32) : wpX_snapshot (fun r => wpY_snapshot (fun r' => r' = r ∧ i_Rel (k + 3) u v) v v1 v2) u v1 v2 := by
  refine hq_Rx_el (Q := fun u v => wpX_snapshot (fun r => wpY_snapshot (fun r' => r' = r ∧ i_Rel (k + 3) u v) v v1 v2) u v1 v2) ?_ I
  intro k ls ll H T L tm cnt fc lim thr cel cN cX cV cS cO fs hz ph oo rA rB rC m vr pc sR sC rt rn ops lo a b c s0 s1 sp lb fa ow sz R hs hok _
  have I0 := hq_Rx_mk R hs hok trivial (P := fun _ => True)
  unfold wpX_snapshot wpY_snapshot
  rcases hq_thr v1 with h | ⟨h, h2, _⟩ | ⟨t, ht, rfl⟩
  · exact br_t h (br_t h ⟨rfl, I0⟩)
  · exact br_f h (br_t h2 (br_f h (br_t h2 ⟨rfl, I0⟩)))
  · have h0 : ¬ nI t < 0 := nI_pos (by omega)
    have h3 : ¬ 3 < nI t := nI_nlt (a := 3) (by omega) (by decide)
    dsimp only
    rw [hq_m8]
    by_cases q1 : v2 < 0
    · exact br_f h0 (br_f h3 (br_t q1 (br_f h0 (br_f h3 (br_t q1 ⟨rfl, I0⟩)))))
    · by_cases q2 : v2 ≤ 7
      · have q1' := q1
        have q2' := q2
        rw [Int32.lt_iff_toInt_lt, hq_i0] at q1'
        rw [Int32.le_iff_toInt_le, hq_i7] at q2'
        obtain ⟨n, hn, rfl⟩ := hq_nle (N := 7) (x := v2) (by omega) q2'
        rw [nI_add, nI_clamp (show 8 * t + n < 2 ^ 31 by omega)]
        have hv : vp_in (nI (8 * t + n)) 32 := vp_in_nI (by omega) (by decide)
        refine br_f h0 (br_f h3 (br_f q1 (br_t q2 ⟨hv, ?_⟩)))
        rw [R.2.2.1.2.2.2.2.2.2.1 (8 * t + n) (by omega)]
        exact hr_num R (R.2.2.1.2.2.2.2.2.2.2 (8 * t + n) (by omega)).2 (br_f h0 (br_f h3 (br_f q1 (br_t q2 ⟨hv, rfl, I0⟩))))
      · exact br_f h0 (br_f h3 (br_f q1 (br_f q2 (br_f h0 (br_f h3 (br_f q1 (br_f q2 ⟨rfl, I0⟩)))))))
theorem i_vc_head {k : Nat} {u : SX} {v : SY} (I : i_Rel k u v) (hk : k + 3 ≤ 1539) : wpX_head (fun r => wpY_head (fun r' => r' = r ∧ i_Rel (k + 3) u v) v) u := by
  refine hq_Rx_el (Q := fun u v => wpX_head (fun r => wpY_head (fun r' => r' = r ∧ i_Rel (k + 3) u v) v) u) ?_ I
  intro k ls ll H T L tm cnt fc lim thr cel cN cX cV cS cO fs hz ph oo rA rB rC m vr pc sR sC rt rn ops lo a b c s0 s1 sp lb fa ow sz R hs hok _
  have I0 := hq_Rx_mk R hs hok trivial (P := fun _ => True)
  have gSc := R.1
  unfold hq_sc at gSc
  unfold wpX_head wpY_head
  exact hr_num R (by rw [nI_toInt (by omega)]; omega) ⟨rfl, I0⟩
theorem i_vc_tail {k : Nat} {u : SX} {v : SY} (I : i_Rel k u v) (hk : k + 3 ≤ 1539) : wpX_tail (fun r => wpY_tail (fun r' => r' = r ∧ i_Rel (k + 3) u v) v) u := by
  refine hq_Rx_el (Q := fun u v => wpX_tail (fun r => wpY_tail (fun r' => r' = r ∧ i_Rel (k + 3) u v) v) u) ?_ I
  intro k ls ll H T L tm cnt fc lim thr cel cN cX cV cS cO fs hz ph oo rA rB rC m vr pc sR sC rt rn ops lo a b c s0 s1 sp lb fa ow sz R hs hok _
  have I0 := hq_Rx_mk R hs hok trivial (P := fun _ => True)
  have gSc := R.1
  unfold hq_sc at gSc
  unfold wpX_tail wpY_tail
  exact hr_num R (by rw [nI_toInt (by omega)]; omega) ⟨rfl, I0⟩
theorem i_vc_last {k : Nat} {u : SX} {v : SY} (I : i_Rel k u v) (hk : k + 3 ≤ 1539) : wpX_last (fun r => wpY_last (fun r' => r' = r ∧ i_Rel (k + 3) u v) v) u := by
  refine hq_Rx_el (Q := fun u v => wpX_last (fun r => wpY_last (fun r' => r' = r ∧ i_Rel (k + 3) u v) v) u) ?_ I
  intro k ls ll H T L tm cnt fc lim thr cel cN cX cV cS cO fs hz ph oo rA rB rC m vr pc sR sC rt rn ops lo a b c s0 s1 sp lb fa ow sz R hs hok _
  exact ⟨rfl, hq_Rx_mk R hs hok trivial (P := fun _ => True)⟩
theorem i_vc_now {k : Nat} {u : SX} {v : SY} (I : i_Rel k u v) (hk : k + 3 ≤ 1539) : wpX_now (fun r => wpY_now (fun r' => r' = r ∧ i_Rel (k + 3) u v) v) u := by
  refine hq_Rx_el (Q := fun u v => wpX_now (fun r => wpY_now (fun r' => r' = r ∧ i_Rel (k + 3) u v) v) u) ?_ I
  intro k ls ll H T L tm cnt fc lim thr cel cN cX cV cS cO fs hz ph oo rA rB rC m vr pc sR sC rt rn ops lo a b c s0 s1 sp lb fa ow sz R hs hok _
  exact ⟨rfl, hq_Rx_mk R hs hok trivial (P := fun _ => True)⟩
theorem i_vc_operations {k : Nat} {u : SX} {v : SY} (I : i_Rel k u v) (hk : k + 3 ≤ 1539) : wpX_operations (fun r => wpY_operations (fun r' => r' = r ∧ i_Rel (k + 3) u v) v) u := by
  refine hq_Rx_el (Q := fun u v => wpX_operations (fun r => wpY_operations (fun r' => r' = r ∧ i_Rel (k + 3) u v) v) u) ?_ I
  intro k ls ll H T L tm cnt fc lim thr cel cN cX cV cS cO fs hz ph oo rA rB rC m vr pc sR sC rt rn ops lo a b c s0 s1 sp lb fa ow sz R hs hok _
  exact ⟨rfl, hq_Rx_mk R hs hok trivial (P := fun _ => True)⟩
theorem i_vc_freeCells {k : Nat} {u : SX} {v : SY} (I : i_Rel k u v) (hk : k + 3 ≤ 1539) : wpX_freeCells (fun r => wpY_freeCells (fun r' => r' = r ∧ i_Rel (k + 3) u v) v) u := by
  refine hq_Rx_el (Q := fun u v => wpX_freeCells (fun r => wpY_freeCells (fun r' => r' = r ∧ i_Rel (k + 3) u v) v) u) ?_ I
  intro k ls ll H T L tm cnt fc lim thr cel cN cX cV cS cO fs hz ph oo rA rB rC m vr pc sR sC rt rn ops lo a b c s0 s1 sp lb fa ow sz R hs hok _
  unfold wpX_freeCells
  exact hm_free R hok _ ⟨rfl, hq_Rx_mk R hs hok trivial (P := fun _ => True)⟩
theorem i_vc_element {k : Nat} {u : SX} {v : SY} (I : i_Rel k u v) (hk : k + 3 ≤ 1539) (v1 : Int32) : wpX_element (fun r => wpY_element (fun r' => r' = r ∧ i_Rel (k + 3) u v) v v1) u v1 := by
  refine hq_Rx_el (Q := fun u v => wpX_element (fun r => wpY_element (fun r' => r' = r ∧ i_Rel (k + 3) u v) v v1) u v1) ?_ I
  intro k ls ll H T L tm cnt fc lim thr cel cN cX cV cS cO fs hz ph oo rA rB rC m vr pc sR sC rt rn ops lo a b c s0 s1 sp lb fa ow sz R hs hok _
  have I0 := hq_Rx_mk R hs hok trivial (P := fun _ => True)
  have gSc := R.1
  unfold hq_sc at gSc
  unfold wpX_element wpY_element
  dsimp only
  refine hr_num R (by rw [nI_toInt (by omega)]; omega) (nm_r (pk_sub (by omega)) ?_)
  rw [pk_sub (show H ≤ L by omega)]
  by_cases e : v1 < 0
  · exact br_t e (br_t e ⟨rfl, I0⟩)
  · obtain ⟨i, hi, rfl⟩ := nI_of e
    by_cases e2 : i < L - H
    · have q := nI_lt e2 (by omega)
      obtain ⟨o, ho, elb, _⟩ := R.2.2.2.2.1 (H + 1 + i) (by omega) (by omega)
      refine br_f e (br_t q ⟨i + 2, hr_elem R e2 ?_ (i + 1) 0 (by omega)⟩)
      refine br_f e (br_t q ?_)
      rw [hq_a1, nI_add]
      exact hy_valueOf (o := o) (by omega) (by omega) (by omega) (by omega) elb ⟨rfl, I0⟩
    · have q := nI_nlt (a := i) (b := L - H) (by omega) hi
      exact br_f e (br_f q (br_f e (br_f q ⟨rfl, I0⟩)))
theorem i_vc_nodeState {k : Nat} {u : SX} {v : SY} (I : i_Rel k u v) (hk : k + 3 ≤ 1539) (v1 : Int32) : wpX_nodeState (fun r => wpY_nodeState (fun r' => r' = r ∧ i_Rel (k + 3) u v) v v1) u v1 := by
  refine hq_Rx_el (Q := fun u v => wpX_nodeState (fun r => wpY_nodeState (fun r' => r' = r ∧ i_Rel (k + 3) u v) v v1) u v1) ?_ I
  intro k ls ll H T L tm cnt fc lim thr cel cN cX cV cS cO fs hz ph oo rA rB rC m vr pc sR sC rt rn ops lo a b c s0 s1 sp lb fa ow sz R hs hok _
  have I0 := hq_Rx_mk R hs hok trivial (P := fun _ => True)
  have gSc := R.1
  unfold hq_sc at gSc
  by_cases e : v1 < 0
  · unfold wpX_nodeState wpY_nodeState
    exact br_t e (br_t e ⟨rfl, I0⟩)
  · obtain ⟨n, hn, rfl⟩ := nI_of e
    by_cases e2 : n ≤ L
    · exact hr_state R e2 _ (hy_nodeState (by omega) (by omega) (by omega) ⟨rfl, I0⟩)
    · unfold wpX_nodeState wpY_nodeState
      exact br_f e (br_f (nI_ge (by omega) hn) (br_f e (br_t (nI_lt (by omega) hn) ⟨rfl, I0⟩)))
theorem i_vc_nodeOwner {k : Nat} {u : SX} {v : SY} (I : i_Rel k u v) (hk : k + 3 ≤ 1539) (v1 : Int32) : wpX_nodeOwner (fun r => wpY_nodeOwner (fun r' => r' = r ∧ i_Rel (k + 3) u v) v v1) u v1 := by
  refine hq_Rx_el (Q := fun u v => wpX_nodeOwner (fun r => wpY_nodeOwner (fun r' => r' = r ∧ i_Rel (k + 3) u v) v v1) u v1) ?_ I
  intro k ls ll H T L tm cnt fc lim thr cel cN cX cV cS cO fs hz ph oo rA rB rC m vr pc sR sC rt rn ops lo a b c s0 s1 sp lb fa ow sz R hs hok _
  have I0 := hq_Rx_mk R hs hok trivial (P := fun _ => True)
  have gSc := R.1
  unfold hq_sc at gSc
  unfold wpX_nodeOwner wpY_nodeOwner
  dsimp only
  by_cases e : v1 < 0
  · unfold wpX_nodeState wpY_nodeState
    exact br_t e (br_f (by decide) (br_f (by decide) (br_t e (br_t e ⟨rfl, I0⟩))))
  · obtain ⟨n, hn, rfl⟩ := nI_of e
    by_cases e2 : n ≤ L
    · have h65 : ¬ 65 ≤ nI n := nI_ge (b := 65) (by omega) (by decide)
      refine hr_state R e2 _ ?_
      have hY : ∀ post : Int32 → Prop, post (hq_ns H L fa n) → wpY_nodeState post (nI cel, nI lim, nI thr, nI tm, nI H, nI T, nI L, nI cnt, ops, ph, a, b, c, m, s0, s1, sp, lb, fa, ow) (nI n) := fun post h => hy_nodeState (by omega) (by omega) (by omega) h
      have key : ∀ s : Int32, hq_ns H L fa n = s → s = 2 ∨ s = 3 → n < H ∧ (fa n = 2 ∨ fa n = 3) := by
        intro s hs1 hs2
        unfold hq_ns at hs1
        rw [if_pos e2] at hs1
        by_cases q : n < H
        · rw [if_pos q] at hs1
          exact ⟨q, by rw [hs1]; exact hs2⟩
        · rw [if_neg q] at hs1
          rw [← hs1] at hs2
          exact absurd hs2 (by decide)
      by_cases q2 : hq_ns H L fa n = 2
      · obtain ⟨y1, y2⟩ := key _ q2 (Or.inl rfl)
        refine br_t q2 (hr_owner R y1 y2 (hY _ (br_f e (br_f h65 (br_t q2 ⟨vp_in_nI (by omega) (by decide), ?_, I0⟩)))))
        rw [nI_clamp hn]
      · by_cases q3 : hq_ns H L fa n = 3
        · obtain ⟨y1, y2⟩ := key _ q3 (Or.inr rfl)
          refine br_f q2 (br_t q3 (hr_owner R y1 y2 (hY _ (br_f e (br_f h65 (br_f q2 (br_t q3 ⟨vp_in_nI (by omega) (by decide), ?_, I0⟩)))))))
          rw [nI_clamp hn]
        · exact br_f q2 (br_f q3 (hY _ (br_f e (br_f h65 (br_f q2 (br_f q3 ⟨rfl, I0⟩))))))
    · unfold wpX_nodeState wpY_nodeState
      refine br_f e (br_f (nI_ge (by omega) hn) (br_f (by decide) (br_f (by decide) (br_f e (br_t (nI_lt (by omega) hn) (br_f e ?_))))))
      by_cases q : 65 ≤ nI n
      · exact br_t q ⟨rfl, I0⟩
      · exact br_f q (br_f (by decide) (br_f (by decide) ⟨rfl, I0⟩))
theorem i_vc_operation {k : Nat} {u : SX} {v : SY} (I : i_Rel k u v) (hk : k + 3 ≤ 1539) (v1 : Int32) (v2 : Int32) : wpX_operation (fun r => wpY_operation (fun r' => r' = r ∧ i_Rel (k + 3) u v) v v1 v2) u v1 v2 := by
  refine hq_Rx_el (Q := fun u v => wpX_operation (fun r => wpY_operation (fun r' => r' = r ∧ i_Rel (k + 3) u v) v v1 v2) u v1 v2) ?_ I
  intro k ls ll H T L tm cnt fc lim thr cel cN cX cV cS cO fs hz ph oo rA rB rC m vr pc sR sC rt rn ops lo a b c s0 s1 sp lb fa ow sz R hs hok _
  have I0 := hq_Rx_mk R hs hok trivial (P := fun _ => True)
  have gSc := R.1
  unfold hq_sc at gSc
  unfold wpX_operation wpY_operation
  dsimp only
  by_cases e : v1 < 0
  · exact br_t e (br_t e ⟨rfl, I0⟩)
  · obtain ⟨i, hi, rfl⟩ := nI_of e
    by_cases e2 : i < cnt
    · have q : ¬ nI cnt ≤ nI i := nI_ge e2 (by omega)
      have q63 : ¬ 63 < nI i := nI_nlt (a := 63) (by omega) (by decide)
      by_cases q1 : v2 < 0
      · exact br_f e (br_f q (br_t q1 (br_f e (br_f q (br_f q63 (br_t q1 ⟨rfl, I0⟩))))))
      · by_cases q2 : v2 ≤ 6
        · have q1' := q1
          have q2' := q2
          rw [Int32.lt_iff_toInt_lt, hq_i0] at q1'
          rw [Int32.le_iff_toInt_le, hq_i6] at q2'
          obtain ⟨f, hf, rfl⟩ := hq_nle (N := 6) (x := v2) (by omega) q2'
          refine br_f e (br_f q (br_f q1 (br_t q2 (hx_getField f (by omega) (by omega) ?_))))
          rw [hq_m7, nI_add, nI_clamp (show 7 * i + f < 2 ^ 31 by omega)]
          exact br_f e (br_f q (br_f q63 (br_f q1 (br_t q2 ⟨vp_in_nI (by omega) (by decide), rfl, I0⟩))))
        · exact br_f e (br_f q (br_f q1 (br_f q2 (br_f e (br_f q (br_f q63 (br_f q1 (br_f q2 ⟨rfl, I0⟩))))))))
    · have q : nI cnt ≤ nI i := nI_le (by omega) hi
      exact br_f e (br_t q (br_f e (br_t q ⟨rfl, I0⟩)))
end
section
/-! the history: sizes and the order -/
theorem hq_acc1 (e d : Nat) : nI e - nI d + 1 = nI (e + 1) - nI d := by
  rw [← nI_1]
  grind
theorem hq_acc2 (e d : Nat) : nI e - nI d + (-1) = nI e - nI (d + 1) := by
  rw [← nI_1]
  grind
def hq_bf (ops : Nat → Int32) (x : Int32) (j : Nat) : Bool := decide (hq_f ops j 5 ≠ 0 ∧ ¬ x ≤ hq_f ops j 5)
theorem hq_bf_iff {ops : Nat → Int32} {x : Int32} {j : Nat} : hq_bf ops x j = true ↔ hq_f ops j 5 ≠ 0 ∧ ¬ x ≤ hq_f ops j 5 := decide_eq_true_iff
theorem hq_li_nd {ll : List Nat} {cnt : Nat} {ops lo : Nat → Int32} (h : hq_li ll cnt ops lo) : ll.Nodup :=
  List.Pairwise.imp (fun hij e => by rw [e] at hij; exact absurd hij (Int.lt_irrefl _)) h.2.1
theorem hq_li_le {ll : List Nat} {cnt : Nat} {ops lo : Nat → Int32} (h : hq_li ll cnt ops lo) : ll.length ≤ cnt := by
  have e : ll.length = hq_cn (fun i => decide (hq_f ops i 5 ≠ 0)) cnt := hq_cn_list (hq_li_nd h) (fun i => by rw [h.2.2 i, decide_eq_true_iff])
  rw [e]
  exact hq_cn_le _ _
/-- the rank of an operation is its place -/
theorem hq_rank {ll l1 l2 : List Nat} {cnt i : Nat} {ops lo : Nat → Int32} (h : hq_li ll cnt ops lo) (e : ll = l1 ++ i :: l2) : hq_cn (hq_bf ops (hq_f ops i 5)) cnt = l1.length := by
  have hn := hq_li_nd h
  obtain ⟨a1, a2, a3⟩ := h
  subst e
  rw [List.pairwise_append, List.pairwise_cons] at a2
  have n1 : l1.Nodup := (List.nodup_append.mp hn).1
  refine (hq_cn_list n1 (fun j => ?_)).symm
  rw [hq_bf_iff, Int32.le_iff_toInt_le]
  constructor
  · intro z
    have h1 := (a3 j).mp (List.mem_append_left _ z)
    have h2 := a2.2.2 j z i List.mem_cons_self
    exact ⟨h1.1, h1.2, by omega⟩
  · intro z
    have hm := (a3 j).mpr ⟨z.1, z.2.1⟩
    rcases List.mem_append.mp hm with w | w
    · exact w
    · rcases List.mem_cons.mp w with w | w
      · rw [w] at z; exact absurd (Int.le_refl _) z.2.2
      · have := a2.2.1.1 j w
        exact absurd (Int.le_of_lt this) z.2.2
section
variable {cel lim thr tm yH yT ln cnt : Int32} {ops ph a b c m s0 s1 sp lb fa ow : Nat → Int32} {t o : Nat} {x y r : Int32}
theorem hy_size {post : Int32 → Prop} {cnt w : Nat} (hc : cnt ≤ 64) (hw : w ≤ 1000) (h : post (nI (hq_cn (hq_we ops w) cnt) - nI (hq_cn (hq_wd ops w) cnt))) :
    ∀ (d j : Nat), j + d = cnt → wY_sizeAt_19 post (nI w) cel lim thr tm yH yT ln (nI cnt) ops ph a b c m s0 s1 sp lb fa ow (d + 1) (nI (hq_cn (hq_we ops w) j) - nI (hq_cn (hq_wd ops w) j)) (nI j) := by
  intro d
  induction d with
  | zero =>
    intro j hj
    rw [show j = cnt by omega]
    unfold wY_sizeAt_19
    exact br_t (nI_le (Nat.le_refl _) (by omega)) h
  | succ d ih =>
    intro j hj
    have hn := ih (j + 1) (by omega)
    have hwi : (nI w).toInt = w := nI_toInt (by omega)
    have v5 : vp_in (nI (7 * j + 5)) 448 := vp_in_nI (by omega) (by decide)
    have v2 : vp_in (nI (7 * j + 2)) 448 := vp_in_nI (by omega) (by decide)
    have v0 : vp_in (nI (7 * j + 0)) 448 := vp_in_nI (by omega) (by decide)
    have i5 : (nI (7 * j + 5)).toNatClampNeg = 7 * j + 5 := nI_clamp (by omega)
    have i2 : (nI (7 * j + 2)).toNatClampNeg = 7 * j + 2 := nI_clamp (by omega)
    have i0 : (nI (7 * j + 0)).toNatClampNeg = 7 * j + 0 := nI_clamp (by omega)
    unfold wY_sizeAt_19
    rw [hq_m7, hq_a5, i5]
    refine br_f (nI_ge (by omega) (by omega)) (br_f (nI_ge (b := 64) (by omega) (by decide)) ⟨v5, ?_⟩)
    rw [hq_cn_succ _ j, hq_cn_succ _ j] at hn
    have skip : ¬ hq_we ops w j = true → ¬ hq_wd ops w j = true → ∀ z0, z0 = (0 : Int32) → wY_sizeAt_68 post (wY_sizeAt_19 post (nI w) cel lim thr tm yH yT ln (nI cnt) ops ph a b c m s0 s1 sp lb fa ow (d + 1)) (nI w) (nI (hq_cn (hq_we ops w) j) - nI (hq_cn (hq_wd ops w) j)) (nI j) z0 cel lim thr tm yH yT ln (nI cnt) ops ph a b c m s0 s1 sp lb fa ow := by
      intro n1 n2 z0 hz
      rw [if_neg n1, if_neg n2] at hn
      unfold wY_sizeAt_68
      refine br_t hz ?_
      unfold wY_sizeAt_93
      exact br_t hz (nm_r (nI_1 j) hn)
    by_cases e1 : hq_f ops j 5 < 1
    · have e1' := e1
      rw [Int32.lt_iff_toInt_lt, hq_i1] at e1'
      refine br_t e1 (skip ?_ ?_ 0 rfl)
      · unfold hq_we; rw [decide_eq_true_iff]; omega
      · unfold hq_wd; rw [decide_eq_true_iff]; omega
    · have e1' := e1
      rw [Int32.lt_iff_toInt_lt, hq_i1] at e1'
      refine br_f e1 ⟨v5, ?_⟩
      by_cases e2 : nI w < hq_f ops j 5
      · have e2' := e2
        rw [Int32.lt_iff_toInt_lt, hwi] at e2'
        refine br_t e2 (skip ?_ ?_ 0 rfl)
        · unfold hq_we; rw [decide_eq_true_iff]; omega
        · unfold hq_wd; rw [decide_eq_true_iff]; omega
      · have e2' := e2
        rw [Int32.lt_iff_toInt_lt, hwi] at e2'
        refine br_f e2 ?_
        unfold wY_sizeAt_68
        rw [hq_m7, hq_a0, i0]
        refine br_f (by decide) ⟨v0, ?_⟩
        by_cases k1 : hq_f ops j 0 = 1
        · have n1 : hq_we ops w j = true := by unfold hq_we; rw [decide_eq_true_iff]; exact ⟨k1, by omega, by omega⟩
          have n2 : ¬ hq_wd ops w j = true := by
            unfold hq_wd
            rw [decide_eq_true_iff, k1]
            exact fun z => absurd z.1 (by decide)
          rw [if_pos n1, if_neg n2, Nat.add_zero] at hn
          refine br_t k1 (nm_r (hq_acc1 _ _) ?_)
          unfold wY_sizeAt_93
          rw [hq_m7, hq_a0, i0]
          refine br_f (by decide) ⟨v0, br_f ?_ (nm_r (nI_1 j) hn)⟩
          show ¬ hq_f ops j 0 = 2
          rw [k1]; decide
        · have n1 : ¬ hq_we ops w j = true := by unfold hq_we; rw [decide_eq_true_iff]; exact fun z => k1 z.1
          rw [if_neg n1, Nat.add_zero] at hn
          refine br_f k1 ?_
          unfold wY_sizeAt_93
          rw [hq_m7, hq_a0, hq_a2, i0, i2]
          refine br_f (by decide) ⟨v0, ?_⟩
          by_cases k2 : hq_f ops j 0 = 2
          · refine br_t k2 ⟨v2, ?_⟩
            by_cases k3 : hq_f ops j 2 = -1
            · have n2 : ¬ hq_wd ops w j = true := by unfold hq_wd; rw [decide_eq_true_iff]; exact fun z => z.2.1 k3
              rw [if_neg n2, Nat.add_zero] at hn
              exact br_t k3 (nm_r (nI_1 j) hn)
            · have n2 : hq_wd ops w j = true := by unfold hq_wd; rw [decide_eq_true_iff]; exact ⟨k2, k3, by omega, by omega⟩
              rw [if_pos n2] at hn
              exact br_f k3 (nm_r (hq_acc2 _ _) (nm_r (nI_1 j) hn))
          · have n2 : ¬ hq_wd ops w j = true := by unfold hq_wd; rw [decide_eq_true_iff]; exact fun z => k2 z.1
            rw [if_neg n2, Nat.add_zero] at hn
            exact br_f k2 (nm_r (nI_1 j) hn)
theorem hy_rank {post : Int32 → Prop} {J2 : Int32 → Prop} {cnt : Nat} {x1 x2 x3 : Int32} (hc : cnt ≤ 64) (h : wY_linear_90 post J2 x1 x2 x3 (nI (hq_cn (hq_bf ops x3) cnt)) cel lim thr tm yH yT ln (nI cnt) ops ph a b c m s0 s1 sp lb fa ow) :
    ∀ (d j : Nat), j + d = cnt → wY_linear_34 post J2 x1 x2 x3 cel lim thr tm yH yT ln (nI cnt) ops ph a b c m s0 s1 sp lb fa ow (d + 1) (nI (hq_cn (hq_bf ops x3) j)) (nI j) := by
  intro d
  induction d with
  | zero =>
    intro j hj
    rw [show j = cnt by omega]
    unfold wY_linear_34
    exact br_t (nI_le (Nat.le_refl _) (by omega)) h
  | succ d ih =>
    intro j hj
    have hn := ih (j + 1) (by omega)
    have v5 : vp_in (nI (7 * j + 5)) 448 := vp_in_nI (by omega) (by decide)
    unfold wY_linear_34
    rw [hq_m7, hq_a5, nI_clamp (show 7 * j + 5 < 2 ^ 31 by omega)]
    refine br_f (nI_ge (by omega) (by omega)) (br_f (nI_ge (b := 64) (by omega) (by decide)) ⟨v5, ?_⟩)
    rw [hq_cn_succ _ j] at hn
    by_cases e1 : hq_f ops j 5 = 0
    · rw [if_neg (by rw [hq_bf_iff]; exact fun z => z.1 e1)] at hn
      exact br_t e1 (nm_r (nI_1 j) hn)
    · refine br_f e1 ⟨v5, ?_⟩
      by_cases e2 : x3 ≤ hq_f ops j 5
      · rw [if_neg (by rw [hq_bf_iff]; exact fun z => z.2 e2)] at hn
        exact br_t e2 (nm_r (nI_1 j) hn)
      · rw [if_pos (by rw [hq_bf_iff]; exact ⟨e1, e2⟩)] at hn
        exact br_f e2 (nm_r (nI_1 _) (nm_r (nI_1 j) hn))
theorem hy_linear_2 {cnt : Nat} {x1 : Int32} (hc : cnt ≤ 64) : ∀ (d j : Nat), j + d = cnt → (∀ i, i < j → hq_f ops i 5 ≠ 0 → nI (hq_cn (hq_bf ops (hq_f ops i 5)) cnt) ≠ x1) →
    ∃ r : Int32, ((r = -1 ∧ ∀ i, i < cnt → hq_f ops i 5 ≠ 0 → nI (hq_cn (hq_bf ops (hq_f ops i 5)) cnt) ≠ x1) ∨ ∃ i, i < cnt ∧ r = nI i ∧ hq_f ops i 5 ≠ 0 ∧ nI (hq_cn (hq_bf ops (hq_f ops i 5)) cnt) = x1) ∧
      ∀ post : Int32 → Prop, post r → wY_linear_2 post x1 cel lim thr tm yH yT ln (nI cnt) ops ph a b c m s0 s1 sp lb fa ow (d + 1) (nI j) := by
  intro d
  induction d with
  | zero =>
    intro j hj hi
    rw [show j = cnt by omega] at hi ⊢
    refine ⟨-1, Or.inl ⟨rfl, hi⟩, fun post h => ?_⟩
    unfold wY_linear_2
    exact br_t (nI_le (Nat.le_refl _) (by omega)) h
  | succ d ih =>
    intro j hj hi
    have v5 : vp_in (nI (7 * j + 5)) 448 := vp_in_nI (by omega) (by decide)
    have i5 : (nI (7 * j + 5)).toNatClampNeg = 7 * j + 5 := nI_clamp (by omega)
    by_cases e : hq_f ops j 5 ≠ 0 ∧ nI (hq_cn (hq_bf ops (hq_f ops j 5)) cnt) = x1
    · refine ⟨nI j, Or.inr ⟨j, by omega, rfl, e⟩, fun post h => ?_⟩
      unfold wY_linear_2
      rw [hq_m7, hq_a5, i5]
      refine br_f (nI_ge (by omega) (by omega)) (br_f (nI_ge (b := 64) (by omega) (by decide)) ⟨v5, nm_e ⟨cnt + 1, hy_rank hc ?_ cnt 0 (by omega)⟩⟩)
      unfold wY_linear_90
      exact br_f e.1 (br_t e.2 h)
    · obtain ⟨r, hr, hw⟩ := ih (j + 1) (by omega) (fun i h => by
        by_cases q : i = j
        · rw [q]; exact fun z1 z2 => e ⟨z1, z2⟩
        · exact hi i (by omega))
      refine ⟨r, hr, fun post h => ?_⟩
      unfold wY_linear_2
      rw [hq_m7, hq_a5, i5]
      refine br_f (nI_ge (by omega) (by omega)) (br_f (nI_ge (b := 64) (by omega) (by decide)) ⟨v5, nm_e ⟨cnt + 1, hy_rank hc ?_ cnt 0 (by omega)⟩⟩)
      unfold wY_linear_90
      by_cases e1 : hq_f ops j 5 = 0
      · exact br_t e1 (nm_r (nI_1 j) (hw post h))
      · exact br_f e1 (br_f (fun z => e ⟨e1, z⟩) (nm_r (nI_1 j) (hw post h)))
end
theorem i_vc_sizeAt {k : Nat} {u : SX} {v : SY} (I : i_Rel k u v) (hk : k + 3 ≤ 1539) (v1 : Int32) : wpX_sizeAt (fun r => wpY_sizeAt (fun r' => r' = r ∧ i_Rel (k + 3) u v) v v1) u v1 := by
  refine hq_Rx_el (Q := fun u v => wpX_sizeAt (fun r => wpY_sizeAt (fun r' => r' = r ∧ i_Rel (k + 3) u v) v v1) u v1) ?_ I
  intro k ls ll H T L tm cnt fc lim thr cel cN cX cV cS cO fs hz ph oo rA rB rC m vr pc sR sC rt rn ops lo a b c s0 s1 sp lb fa ow sz R hs hok _
  have I0 := hq_Rx_mk R hs hok trivial (P := fun _ => True)
  have gSc := R.1
  unfold hq_sc at gSc
  unfold wpX_sizeAt wpY_sizeAt
  dsimp only
  by_cases e : v1 < 0
  · exact br_t e (br_t e ⟨rfl, I0⟩)
  · obtain ⟨w, hw, rfl⟩ := nI_of e
    by_cases e2 : w ≤ tm
    · have q := nI_le e2 (show tm < 2 ^ 31 by omega)
      rw [nI_clamp hw, hs w e2]
      have h0 : nI (hq_cn (hq_we ops w) 0) - nI (hq_cn (hq_wd ops w) 0) = 0 := by
        show nI 0 - nI 0 = 0
        decide
      have key : ∀ post : Int32 → Prop, post (nI (hq_cn (hq_we ops w) cnt) - nI (hq_cn (hq_wd ops w) cnt)) → wY_sizeAt_19 post (nI w) (nI cel) (nI lim) (nI thr) (nI tm) (nI H) (nI T) (nI L) (nI cnt) ops ph a b c m s0 s1 sp lb fa ow (cnt + 1) 0 (nI 0) := by
        intro post h
        have := @hy_size (nI cel) (nI lim) (nI thr) (nI tm) (nI H) (nI T) (nI L) ops ph a b c m s0 s1 sp lb fa ow post cnt w (by omega) (by omega) h cnt 0 (by omega)
        rw [h0] at this
        exact this
      exact br_f e (br_t q ⟨vp_in_nI (by omega) (by decide), br_f e (br_t q ⟨cnt + 1, key _ (And.intro rfl I0)⟩)⟩)
    · have q : ¬ nI w ≤ nI tm := nI_ge (by omega) hw
      exact br_f e (br_f q (br_f e (br_f q ⟨rfl, I0⟩)))
theorem i_vc_linear {k : Nat} {u : SX} {v : SY} (I : i_Rel k u v) (hk : k + 3 ≤ 1539) (v1 : Int32) : wpX_linear (fun r => wpY_linear (fun r' => r' = r ∧ i_Rel (k + 3) u v) v v1) u v1 := by
  refine hq_Rx_el (Q := fun u v => wpX_linear (fun r => wpY_linear (fun r' => r' = r ∧ i_Rel (k + 3) u v) v v1) u v1) ?_ I
  intro k ls ll H T L tm cnt fc lim thr cel cN cX cV cS cO fs hz ph oo rA rB rC m vr pc sR sC rt rn ops lo a b c s0 s1 sp lb fa ow sz R hs hok _
  have I0 := hq_Rx_mk R hs hok trivial (P := fun _ => True)
  have gSc := R.1
  unfold hq_sc at gSc
  have hli := R.2.2.2.2.2.2.2.2.2.2.2.2.1.2.2.2.2
  have hle := hq_li_le hli
  obtain ⟨r, hr, hw⟩ := @hy_linear_2 (nI cel) (nI lim) (nI thr) (nI tm) (nI H) (nI T) (nI L) ops ph a b c m s0 s1 sp lb fa ow cnt v1 (by omega) cnt 0 (by omega) (fun i h => by omega)
  have hY : ∀ post : Int32 → Prop, post r → wpY_linear post (nI cel, nI lim, nI thr, nI tm, nI H, nI T, nI L, nI cnt, ops, ph, a, b, c, m, s0, s1, sp, lb, fa, ow) v1 := fun post h => ⟨cnt + 1, hw post h⟩
  have place : ∀ i, i < cnt → hq_f ops i 5 ≠ 0 → ∃ p, p < ll.length ∧ ll[p]? = some i ∧ hq_cn (hq_bf ops (hq_f ops i 5)) cnt = p := by
    intro i hi h5
    obtain ⟨l1, l2, e⟩ := List.append_of_mem ((hli.2.2 i).mpr ⟨hi, h5⟩)
    refine ⟨l1.length, by rw [e]; simp, by rw [e]; simp, hq_rank hli e⟩
  unfold wpX_linear
  dsimp only
  by_cases e : v1 < 0
  · refine br_t e (hY _ ⟨?_, I0⟩)
    rcases hr with z | ⟨i, hi, e1, e2, e3⟩
    · exact z.1
    · rw [← e3] at e
      have := hq_cn_le (hq_bf ops (hq_f ops i 5)) cnt
      exact absurd e (nI_pos (by omega))
  · obtain ⟨q, hq, rfl⟩ := nI_of e
    by_cases e2 : q < ll.length
    · refine br_f e (br_t (nI_lt e2 (by omega)) ⟨vp_in_nI (by omega) (by decide), hY _ ⟨?_, I0⟩⟩)
      have hg : ll[q]? = some ll[q] := List.getElem?_eq_getElem e2
      rw [nI_clamp hq, hli.1 q _ hg]
      have hmem := (hli.2.2 ll[q]).mp (List.getElem_mem e2)
      obtain ⟨p, hp1, hp2, hp3⟩ := place ll[q] hmem.1 hmem.2
      have hpq : p = q := by
        exact (List.getElem?_inj hp1 (hq_li_nd hli)).mp (hp2.trans hg.symm)
      rcases hr with z | ⟨i, hi, y1, y2, y3⟩
      · exact absurd (by rw [hp3, hpq]) (z.2 _ hmem.1 hmem.2)
      · obtain ⟨p', hp1', hp2', hp3'⟩ := place i hi y2
        rw [hp3', nI_eq (by omega) hq] at y3
        subst y3
        rw [y1]
        rw [hg] at hp2'
        exact congrArg nI (Option.some.inj hp2').symm
    · refine br_f e (br_f (nI_nlt (by omega) hq) (hY _ ⟨?_, I0⟩))
      rcases hr with z | ⟨i, hi, y1, y2, y3⟩
      · exact z.1
      · obtain ⟨p', hp1', hp2', hp3'⟩ := place i hi y2
        rw [hp3', nI_eq (by omega) hq] at y3
        omega
end
section
/-! the constructors -/
def hq_z : Nat → Int32 := fun _ => 0
def hq_fi (j : Nat) (x : Int32) : Nat → Int32 := fun i => if i < j then x else 0
theorem hq_fi_0 (x : Int32) : hq_fi 0 x = fun _ => 0 := funext fun i => if_neg (by omega)
theorem hq_fi_t {j i : Nat} {x : Int32} (h : i < j) : hq_fi j x i = x := if_pos h
theorem hq_fi_s (j : Nat) (x : Int32) : upd (hq_fi j x) j x = hq_fi (j + 1) x := funext fun i => by
  unfold hq_fi
  by_cases e : i = j
  · rw [e, pk_us, if_pos (by omega)]
  · rw [pk_un e]
    by_cases h : i < j
    · rw [if_pos h, if_pos (by omega)]
    · rw [if_neg h, if_neg (by omega)]
theorem hq_fi_2 (j : Nat) (x : Int32) : upd (upd (hq_fi (2 * j) x) (2 * j) x) (2 * j + 1) x = hq_fi (2 * (j + 1)) x := by
  rw [hq_fi_s, hq_fi_s]
  rfl
theorem hq_fi_8 (j : Nat) : hq_clr (hq_fi (8 * j) (-2)) j = hq_fi (8 * (j + 1)) (-2) := funext fun i => by
  unfold hq_clr hq_fi
  by_cases e : 8 * j ≤ i ∧ i < 8 * j + 8
  · rw [if_pos e, if_pos (by omega)]
  · rw [if_neg e]
    by_cases h : i < 8 * j
    · rw [if_pos h, if_pos (by omega)]
    · rw [if_neg h, if_neg (by omega)]
theorem hq_z_u (j : Nat) : upd hq_z j 0 = hq_z := hq_us' rfl
/-- the free stack after f pushes -/
def hq_fsk (n f : Nat) : Nat → Int32 := fun i => if i < f then nI (n - 1 - i) else 0
theorem hq_fsk_s (n f : Nat) : upd (hq_fsk n f) f (nI (n - 1 - f)) = hq_fsk n (f + 1) := funext fun i => by
  unfold hq_fsk
  by_cases e : i = f
  · rw [e, pk_us, if_pos (by omega)]
  · rw [pk_un e]
    by_cases h : i < f
    · rw [if_pos h, if_pos (by omega)]
    · rw [if_neg h, if_neg (by omega)]
theorem hq_clampX (v : Int32) (lo hi : Nat) (h1 : lo ≤ hi) (h2 : hi < 2 ^ 31) : ∃ n : Nat, lo ≤ n ∧ n ≤ hi ∧ (∀ (u : SX) (post : Int32 → Prop), post (nI n) → wpX_clamp post u v (nI lo) (nI hi)) ∧ (∀ (u : SY) (post : Int32 → Prop), post (nI n) → wpY_clamp post u v (nI lo) (nI hi)) := by
  by_cases e : nI lo ≤ v
  · by_cases e2 : v ≤ nI hi
    · have e' := e
      have e2' := e2
      rw [Int32.le_iff_toInt_le, nI_toInt (by omega)] at e' e2'
      obtain ⟨n, hn, rfl⟩ := hq_nle (N := hi) (x := v) (by omega) e2'
      rw [nI_toInt (by omega)] at e'
      refine ⟨n, by omega, hn, fun u post h => ?_, fun u post h => ?_⟩
      · unfold wpX_clamp
        exact br_t e (br_t e2 h)
      · unfold wpY_clamp
        exact br_t e (br_t e2 h)
    · refine ⟨hi, h1, Nat.le_refl _, fun u post h => ?_, fun u post h => ?_⟩
      · unfold wpX_clamp
        exact br_t e (br_f e2 h)
      · unfold wpY_clamp
        exact br_t e (br_f e2 h)
  · refine ⟨lo, Nat.le_refl _, h1, fun u post h => ?_, fun u post h => ?_⟩
    · unfold wpX_clamp
      exact br_f e h
    · unfold wpY_clamp
      exact br_f e h
section
variable {fc hr tr ln tm cnt lc lim thr : Int32} {cN cX cV cS cO fs hz ph oo rA rB rC m vr pc sR sC rt rn ops lo sz : Nat → Int32}
theorem hx_320 {post : SX → Prop} (h : post (fc, hr, tr, ln, tm, cnt, lc, lim, thr, cN, cX, cV, cS, cO, fs, hq_fi (2 * 4) (-1), hq_z, hq_fi 4 (-1), hq_fi 4 (-1), hq_fi 4 (-1), hq_fi 4 (-1), hq_z, vr, hq_fi 4 (-1), hq_fi (8 * 4) (-2), hq_z, rt, rn, ops, lo, sz)) :
    ∀ (d j : Nat), j + d = 4 → wX_init_320 post (d + 1) (nI j) fc hr tr ln tm cnt lc lim thr cN cX cV cS cO fs (hq_fi (2 * j) (-1)) hq_z (hq_fi j (-1)) (hq_fi j (-1)) (hq_fi j (-1)) (hq_fi j (-1)) hq_z vr (hq_fi j (-1)) (hq_fi (8 * j) (-2)) hq_z rt rn ops lo sz := by
  intro d
  induction d with
  | zero =>
    intro j hj
    rw [show j = 4 by omega]
    unfold wX_init_320
    exact br_t (show (4 : Int32) ≤ nI 4 from by decide) h
  | succ d ih =>
    intro j hj
    have ht : j < 4 := by omega
    have hn := ih (j + 1) (by omega)
    unfold wX_init_320
    rw [hx_c4 ht]
    refine br_f (nI_ge (b := 4) (by omega) (by decide)) ⟨hx_v4 ht, nm_r (hq_z_u j) ⟨hx_v4 ht, nm_r (hq_fi_s j _) ⟨hx_v4 ht, nm_r (hq_fi_s j _) ?_⟩⟩⟩
    refine hx_clearLocals ht ?_
    refine hx_clearSnapshot ht (nm_r (nI_1 j) ?_)
    rw [hq_fi_2, hq_fi_s, hq_z_u, hq_fi_8]
    exact hn
theorem hx_260 {post : SX → Prop} {n : Nat} (hn : n ≤ 16) (h2 : 2 ≤ n)
    (h : ∃ n320, wX_init_320 post n320 0 (nI (n - 1)) (0) (0) ln tm cnt lc lim thr (upd cN 0 0) cX cV (upd cS 0 1) cO (hq_fsk n (n - 1)) hz ph oo rA rB rC m vr pc sR sC rt rn ops lo sz) :
    ∀ (q f : Nat), q + f = n - 1 → wX_init_260 post hr tr ln tm cnt lc lim thr (q + 1) (nI q) (nI f) cN cX cV cS cO (hq_fsk n f) hz ph oo rA rB rC m vr pc sR sC rt rn ops lo sz := by
  intro q
  induction q with
  | zero =>
    intro f hf
    rw [show f = n - 1 by omega]
    unfold wX_init_260
    exact br_t (show nI 0 < 1 from by decide) (nm_e (nm_e h))
  | succ q ih =>
    intro f hf
    have hw := ih (f + 1) (by omega)
    unfold wX_init_260
    rw [nI_clamp (show f < 2 ^ 31 by omega)]
    refine br_f (nI_nlt (b := 1) (by omega) (by omega)) ⟨vp_in_nI (by omega) (by decide), nm_r ?_ (nm_r (nI_1 f) (nm_r (pk_m1 q) hw))⟩
    rw [show q + 1 = n - 1 - f by omega]
    exact hq_fsk_s n f
theorem hx_209 {post : SX → Prop} {n : Nat} (h1 : 1 ≤ n)
    (h : ∃ n260, wX_init_260 post hr tr ln tm cnt lc lim thr n260 (nI (n - 1)) fc (hq_fi 16 (-1)) (hq_fi 16 (-1)) cV (hq_fi 16 4) (hq_fi 16 (-1)) fs hz ph oo rA rB rC m vr pc sR sC rt rn ops lo sz) :
    ∀ (d j : Nat), j + d = 16 → wX_init_209 post (nI n) fc hr tr ln tm cnt lc lim thr (d + 1) (nI j) (hq_fi j (-1)) (hq_fi j (-1)) cV (hq_fi j 4) (hq_fi j (-1)) fs hz ph oo rA rB rC m vr pc sR sC rt rn ops lo sz := by
  intro d
  induction d with
  | zero =>
    intro j hj
    rw [show j = 16 by omega]
    unfold wX_init_209
    refine br_t (show (16 : Int32) ≤ nI 16 from by decide) (nm_r ?_ h)
    obtain ⟨n', rfl⟩ : ∃ n', n = n' + 1 := ⟨n - 1, by omega⟩
    exact nI_pred n'
  | succ d ih =>
    intro j hj
    have hw := ih (j + 1) (by omega)
    have hv : vp_in (nI j) 16 := vp_in_nI (by omega) (by decide)
    unfold wX_init_209
    rw [nI_clamp (show j < 2 ^ 31 by omega)]
    exact br_f (nI_ge (b := 16) (by omega) (by decide)) ⟨hv, nm_r (hq_fi_s j _) ⟨hv, nm_r (hq_fi_s j _) ⟨hv, nm_r (hq_fi_s j _) ⟨hv, nm_r (hq_fi_s j _) (nm_r (nI_1 j) hw)⟩⟩⟩⟩
end
section
variable {cel lim thr tm yH yT ln cnt : Int32} {ops ph a b c m s0 s1 sp lb fa ow : Nat → Int32}
theorem hy_133 {post : SY → Prop} (h : post (cel, lim, thr, tm, yH, yT, ln, cnt, ops, ph, hq_fi 4 (-1), hq_fi 4 (-1), hq_fi 4 (-1), hq_z, hq_fi 4 (-1), hq_fi 4 (-1), hq_fi (8 * 4) (-2), lb, fa, ow)) :
    ∀ (d j : Nat), j + d = 4 → wY_init_133 post (d + 1) (nI j) cel lim thr tm yH yT ln cnt ops ph (hq_fi j (-1)) (hq_fi j (-1)) (hq_fi j (-1)) hq_z (hq_fi j (-1)) (hq_fi j (-1)) (hq_fi (8 * j) (-2)) lb fa ow := by
  intro d
  induction d with
  | zero =>
    intro j hj
    rw [show j = 4 by omega]
    unfold wY_init_133
    exact br_t (show (4 : Int32) ≤ nI 4 from by decide) h
  | succ d ih =>
    intro j hj
    have ht : j < 4 := by omega
    have hn := ih (j + 1) (by omega)
    unfold wY_init_133
    refine br_f (nI_ge (b := 4) (by omega) (by decide)) ?_
    refine hy_forget ht ?_
    refine hy_unread ht (nm_r (nI_1 j) ?_)
    rw [hq_fi_s, hq_z_u, hq_fi_8]
    exact hn
end
theorem hi_RR {n lim thr : Nat} (h1 : 2 ≤ n) (h2 : n ≤ 16) (h3 : 4 ≤ lim) (h4 : lim ≤ 64) (h5 : 1 ≤ thr) (h6 : thr ≤ 6) :
    hq_RR (fun _ => 0) (fun _ => []) ([]) (0) (0) (0) (0) (0) (n - 1) lim thr n (upd (hq_fi 16 (-1)) 0 0) (hq_fi 16 (-1)) hq_z (upd (hq_fi 16 4) 0 1) (hq_fi 16 (-1)) (hq_fsk n (n - 1)) (hq_fi (2 * 4) (-1)) hq_z (hq_fi 4 (-1)) (hq_fi 4 (-1)) (hq_fi 4 (-1)) (hq_fi 4 (-1)) hq_z hq_z (hq_fi 4 (-1)) (hq_fi (8 * 4) (-2)) hq_z hq_z hq_z hq_z hq_z (hq_fi 4 (-1)) (hq_fi 4 (-1)) (hq_fi 4 (-1)) (hq_fi 4 (-1)) (hq_fi 4 (-1)) (hq_fi (8 * 4) (-2)) hq_z hq_z hq_z := by
  have hph : ∀ t, (hq_z t).toInt = 0 := fun _ => hq_i0
  have hpv : ∀ t, hq_pv hq_z t = false := fun t => decide_eq_false (by rw [hph]; omega)
  have hhl : ∀ q, hq_hl 0 0 hq_z q = true ↔ q = 0 := fun q => by
    rw [hq_hl_iff]
    exact ⟨fun z => by omega, fun z => ⟨by omega, Or.inl (by omega)⟩⟩
  refine ⟨?_, ?_, ?_, ?_, ?_, ?_, ?_, ?_, ?_, ?_, ?_, ?_, ?_, ?_, ?_, ?_⟩
  · unfold hq_sc; omega
  · intro t ht
    rw [hph, hq_fi_t ht, hq_im1]
    exact hq_LO_0 (by omega) (by omega)
  · refine ⟨fun _ _ => Nat.zero_lt_succ 15, fun i hi => ?_, fun i hi => ?_, fun i hi => ?_, fun i hi => ?_, fun i hi => ?_, fun i hi => ?_, fun i hi => ?_⟩
    · rw [hq_fi_t hi, hq_rf_m1]
    · rw [hq_fi_t hi, hq_rf_m1]
    · rw [hq_fi_t hi, hq_rf_m1]
    · rw [hq_fi_t (by omega), hq_fi_t hi, hq_rf_m1]
    · rw [hq_fi_t (by omega), hq_fi_t hi, hq_rf_m1]
    · rw [hq_fi_t (by omega), hq_rf_m2]
    · rw [hq_fi_t (by omega), hq_im2]; omega
  · refine ⟨fun q hq => ?_, fun d hd => ?_, fun q hq => by omega⟩
    · have := (hhl q).mp hq
      subst this
      refine ⟨rfl, ?_, fun z => by omega, fun z => by omega⟩
      rw [if_neg (Nat.lt_irrefl _)]
      exact hq_fi_t (j := 16) (i := 0) (by omega)
    · by_cases e : d = 0
      · exact Or.inr ⟨0, (hhl 0).mpr rfl, e.symm⟩
      · rw [pk_un e, hq_fi_t hd]; exact Or.inl rfl
  · intro q z1 z2; omega
  · have hfs : ∀ i, i < n - 1 → hq_fsk n (n - 1) i = nI (n - 1 - i) := fun i hi => if_pos hi
    refine ⟨fun i hi => ⟨n - 1 - i, by omega, hfs i hi, ?_⟩, fun i j hi hj e => ?_⟩
    · rw [pk_un (by omega), hq_fi_t (by omega)]
    · rw [hfs i hi, hfs j hj, nI_eq (by omega) (by omega)] at e
      omega
  · exact ⟨fun t _ z => absurd z (by rw [hpv]; decide), fun s t _ _ z => absurd z (by rw [hpv]; decide)⟩
  · unfold hq_ct
    have c1 : hq_cn (hq_hl 0 0 hq_z) 65 = hq_cn (fun _ => false) 65 + 1 := hq_cn_flip (k := 0) (by omega) rfl ((hhl 0).mpr rfl) (fun i _ hi => by
      rw [Bool.eq_false_iff]
      exact fun z => hi ((hhl i).mp z))
    have c2 : hq_cn (fun _ => false) 65 = 0 := hq_cn_0 (fun _ _ => rfl)
    have c3 : hq_cn (hq_pv hq_z) 4 = 0 := hq_cn_0 (fun i _ => hpv i)
    rw [c1, c2, c3]
    omega
  · intro t ht
    refine ⟨List.Pairwise.nil, fun q => ?_, rfl, fun i q z => by simp at z⟩
    rw [hq_rb_iff]
    exact ⟨fun z => by simp at z, fun z => by omega⟩
  · intro t ht
    rw [hph]
    exact ⟨fun z => by omega, fun z => by omega⟩
  · intro t ht
    rw [hph]
    refine ⟨by unfold hq_SN; omega, fun j hj => ?_⟩
    rw [hq_fi_t (by omega)]
    exact ⟨fun _ => by omega, fun _ => rfl⟩
  · exact ⟨fun t ht z => absurd (hph t) z, fun i hi => by omega, fun i _ _ => ⟨rfl, rfl⟩, fun i hi => by omega⟩
  · refine ⟨fun i hi => by omega, fun i j hi => by omega, fun t ht => ?_, fun t ht z => absurd rfl z, fun j i z => by simp at z, List.Pairwise.nil, fun i => ?_⟩
    · rw [hph]; omega
    · exact ⟨fun z => by simp at z, fun z => by omega⟩
  · exact ⟨rfl, rfl⟩
  · intro t ht z
    rw [hph] at z
    omega
  · intro t ht z
    rw [hph] at z
    omega
theorem i_vc0 (k0 : Int32) (k1 : Int32) (k2 : Int32) : wpX_init (fun u => wpY_init (fun v => i_Rel 3 u v) k0 k1 k2) k0 k1 k2 := by
  obtain ⟨n, n1, n2, nX, nY⟩ := hq_clampX k0 2 16 (by decide) (by decide)
  obtain ⟨lim, l1, l2, lX, lY⟩ := hq_clampX k1 4 64 (by decide) (by decide)
  obtain ⟨thr, t1, t2, tX, tY⟩ := hq_clampX k2 1 6 (by decide) (by decide)
  have R := hi_RR n1 n2 l1 l2 t1 t2
  have hrf : hq_rf (fun _ => 0) (nI 0) = 0 := by rw [hq_rf_n (by decide)]; rfl
  have I0 := hq_Rx_mk (sz := fun _ => 0) (P := fun _ => True) R (fun w hw => by
    show (0 : Int32) = nI 0 - nI 0
    decide) (fun t _ => by show (0 : Int32).toInt ≤ 23; decide) trivial
  rw [hrf] at I0
  unfold wpX_init
  refine nX _ _ (lX _ _ (tX _ _ ?_))
  have e1 := hq_fi_0 (-1)
  have e4 := hq_fi_0 4
  have e2 := hq_fi_0 (-2)
  have hY : ∀ post : SY → Prop, post (nI n, nI lim, nI thr, nI (0), nI (0), nI (0), nI (0), nI (0), hq_z, hq_z, hq_fi 4 (-1), hq_fi 4 (-1), hq_fi 4 (-1), hq_z, hq_fi 4 (-1), hq_fi 4 (-1), hq_fi (8 * 4) (-2), hq_z, hq_z, hq_z) → wpY_init post k0 k1 k2 := by
    intro post h
    unfold wpY_init
    refine nY _ _ (lY _ _ (tY _ _ ⟨5, ?_⟩))
    have := hy_133 (cel := nI n) (lim := nI lim) (thr := nI thr) (tm := 0) (yH := 0) (yT := 0) (ln := 0) (cnt := 0) (ops := hq_z) (ph := hq_z) (lb := hq_z) (fa := hq_z) (ow := hq_z) h 4 0 rfl
    rw [Nat.mul_zero, e1, e2] at this
    exact this
  have hX : ∀ post : SX → Prop, post (nI (n - 1), 0, 0, nI (0), nI (0), nI (0), 0, nI lim, nI thr, upd (hq_fi 16 (-1)) 0 0, hq_fi 16 (-1), hq_z, upd (hq_fi 16 4) 0 1, hq_fi 16 (-1), hq_fsk n (n - 1), hq_fi (2 * 4) (-1), hq_z, hq_fi 4 (-1), hq_fi 4 (-1), hq_fi 4 (-1), hq_fi 4 (-1), hq_z, hq_z, hq_fi 4 (-1), hq_fi (8 * 4) (-2), hq_z, hq_z, hq_z, hq_z, hq_z, fun _ => 0) →
      ∃ n209, wX_init_209 post (nI n) 0 0 0 0 0 0 0 (nI lim) (nI thr) n209 0 (fun _ => 0) (fun _ => 0) (fun _ => 0) (fun _ => 0) (fun _ => 0) (fun _ => 0) (fun _ => 0) (fun _ => 0) (fun _ => 0) (fun _ => 0) (fun _ => 0) (fun _ => 0) (fun _ => 0) (fun _ => 0) (fun _ => 0) (fun _ => 0) (fun _ => 0) (fun _ => 0) (fun _ => 0) (fun _ => 0) (fun _ => 0) (fun _ => 0) := by
    intro post h
    have s1 := hx_320 (fc := nI (n - 1)) (hr := 0) (tr := 0) (ln := 0) (tm := 0) (cnt := 0) (lc := 0) (lim := nI lim) (thr := nI thr) (cN := upd (hq_fi 16 (-1)) 0 0) (cX := hq_fi 16 (-1)) (cV := hq_z) (cS := upd (hq_fi 16 4) 0 1) (cO := hq_fi 16 (-1)) (fs := hq_fsk n (n - 1)) (vr := hq_z) (rt := hq_z) (rn := hq_z) (ops := hq_z) (lo := hq_z) (sz := fun _ => 0) h 4 0 rfl
    rw [Nat.mul_zero, e1, e2] at s1
    have s2 := hx_260 (hr := 0) (tr := 0) (ln := 0) (tm := 0) (cnt := 0) (lc := 0) (lim := nI lim) (thr := nI thr) (cN := hq_fi 16 (-1)) (cX := hq_fi 16 (-1)) (cV := hq_z) (cS := hq_fi 16 4) (cO := hq_fi 16 (-1)) (hz := fun _ => 0) (ph := hq_z) (oo := fun _ => 0) (rA := fun _ => 0) (rB := fun _ => 0) (rC := fun _ => 0) (m := hq_z) (vr := hq_z) (pc := fun _ => 0) (sR := fun _ => 0) (sC := hq_z) (rt := hq_z) (rn := hq_z) (ops := hq_z) (lo := hq_z) (sz := fun _ => 0) n2 n1 ⟨5, s1⟩ (n - 1) 0 (by omega)
    have e3 : hq_fsk n 0 = fun _ => 0 := funext fun i => if_neg (by omega)
    rw [e3] at s2
    have s3 := hx_209 (fc := 0) (hr := 0) (tr := 0) (ln := 0) (tm := 0) (cnt := 0) (lc := 0) (lim := nI lim) (thr := nI thr) (cV := hq_z) (fs := fun _ => 0) (hz := fun _ => 0) (ph := hq_z) (oo := fun _ => 0) (rA := fun _ => 0) (rB := fun _ => 0) (rC := fun _ => 0) (m := hq_z) (vr := hq_z) (pc := fun _ => 0) (sR := fun _ => 0) (sC := hq_z) (rt := hq_z) (rn := hq_z) (ops := hq_z) (lo := hq_z) (sz := fun _ => 0) (n := n) (by omega) ⟨_, s2⟩ 16 0 rfl
    rw [e1, e4] at s3
    exact ⟨17, s3⟩
  exact hX _ (hY _ I0)
end
