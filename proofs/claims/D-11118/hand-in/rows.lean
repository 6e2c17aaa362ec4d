section
section
/-! the coder as plain numbers -/
def sq_val (f : Nat → Nat) : Nat → Nat
  | 0 => 0
  | k + 1 => sq_val f k * 256 + f k
theorem sq_val_s (f : Nat → Nat) (k : Nat) : sq_val f (k + 1) = sq_val f k * 256 + f k := rfl
theorem sq_val_congr {f g : Nat → Nat} (k : Nat) (h : ∀ i, i < k → f i = g i) : sq_val f k = sq_val g k := by
  induction k with
  | zero => rfl
  | succ k ih => rw [sq_val_s, sq_val_s, ih (fun i hi => h i (by omega)), h k (by omega)]
abbrev sq_S : Type := (Nat → Nat) × Nat × Nat × Nat
def sq_P (p : Nat → Nat) : Prop := ∀ k, 31 ≤ p k ∧ p k ≤ 2017
def sq_bd (p : Nat → Nat) (r c : Nat) : Nat := r / 2048 * p c
def sq_lp (p : Nat → Nat) (c b : Nat) : Nat → Nat := fun k => if k = c then (if b = 0 then p c + (2048 - p c) / 32 else p c - p c / 32) else p k
def sq_T1 (p : Nat → Nat) (T r c b : Nat) : Nat := if b = 0 then T else T + sq_bd p r c
def sq_r1 (p : Nat → Nat) (r c b : Nat) : Nat := if b = 0 then sq_bd p r c else r - sq_bd p r c
def sq_nm (p : Nat → Nat) (T r j : Nat) : sq_S := if r < 16777216 then (p, T * 256, r * 256, j + 1) else (p, T, r, j)
def sq_step (s : sq_S) (d : Nat × Nat) : sq_S := sq_nm (sq_lp s.1 d.1 d.2) (sq_T1 s.1 s.2.1 s.2.2.1 d.1 d.2) (sq_r1 s.1 s.2.2.1 d.1 d.2) s.2.2.2
def sq_ok (s : sq_S) : Prop := sq_P s.1 ∧ 16777216 ≤ s.2.2.1 ∧ s.2.2.1 < 4294967296
theorem sq_nm_lt {p : Nat → Nat} {T r j : Nat} (h : r < 16777216) : sq_nm p T r j = (p, T * 256, r * 256, j + 1) := by
  unfold sq_nm
  rw [if_pos h]
theorem sq_nm_ge {p : Nat → Nat} {T r j : Nat} (h : ¬ r < 16777216) : sq_nm p T r j = (p, T, r, j) := by
  unfold sq_nm
  rw [if_neg h]
theorem sq_nm_p {p : Nat → Nat} {T r j : Nat} : (sq_nm p T r j).1 = p := by
  by_cases h : r < 16777216
  · rw [sq_nm_lt h]
  · rw [sq_nm_ge h]
theorem sq_lp_P {p : Nat → Nat} {c b : Nat} (h : sq_P p) : sq_P (sq_lp p c b) := by
  intro k
  have h1 := h c
  have h2 := h k
  unfold sq_lp
  split
  · split <;> omega
  · exact h2
theorem sq_bd_in {p : Nat → Nat} {r : Nat} (c : Nat) (h : sq_P p) (hr : 16777216 ≤ r) : 253952 ≤ sq_bd p r c ∧ sq_bd p r c + 253952 ≤ r := by
  have h1 := h c
  have e1 : r / 2048 * 31 ≤ sq_bd p r c := Nat.mul_le_mul (Nat.le_refl _) h1.1
  have e2 : sq_bd p r c ≤ r / 2048 * 2017 := Nat.mul_le_mul (Nat.le_refl _) h1.2
  omega
theorem sq_r1_in {p : Nat → Nat} {r : Nat} (c b : Nat) (h : sq_P p) (hr : 16777216 ≤ r) : 253952 ≤ sq_r1 p r c b ∧ sq_r1 p r c b ≤ r := by
  have h1 := sq_bd_in c h hr
  unfold sq_r1
  split <;> omega
theorem sq_T1_in {p : Nat → Nat} {r : Nat} (T c b : Nat) (h : sq_P p) (hr : 16777216 ≤ r) : T ≤ sq_T1 p T r c b ∧ sq_T1 p T r c b + sq_r1 p r c b ≤ T + r := by
  have h1 := sq_bd_in c h hr
  unfold sq_T1 sq_r1
  split <;> omega
theorem sq_nm_ok {p : Nat → Nat} {T r j : Nat} (hp : sq_P p) (h1 : 253952 ≤ r) (h2 : r < 4294967296) : sq_ok (sq_nm p T r j) := by
  by_cases h : r < 16777216
  · rw [sq_nm_lt h]
    exact ⟨hp, show 16777216 ≤ r * 256 by omega, show r * 256 < 4294967296 by omega⟩
  · rw [sq_nm_ge h]
    exact ⟨hp, show 16777216 ≤ r by omega, h2⟩
theorem sq_step_ok {s : sq_S} (d : Nat × Nat) (h : sq_ok s) : sq_ok (sq_step s d) := by
  obtain ⟨h1, h2, h3⟩ := h
  have hr := sq_r1_in d.1 d.2 h1 h2
  exact sq_nm_ok (sq_lp_P h1) hr.1 (by omega)
theorem sq_nm_j {p : Nat → Nat} {T r j : Nat} : (sq_nm p T r j).2.2.2 ≤ j + 1 := by
  by_cases h : r < 16777216
  · rw [sq_nm_lt h]
    exact Nat.le_refl _
  · rw [sq_nm_ge h]
    exact Nat.le_succ _
/-- the bytes S lie in the interval of s -/
def sq_in (S : Nat → Nat) (s : sq_S) : Prop := 5 + s.2.2.2 ≤ 352 ∧ s.2.1 ≤ sq_val S (5 + s.2.2.2) ∧ sq_val S (5 + s.2.2.2) < s.2.1 + s.2.2.1
theorem sq_nm_in {S : Nat → Nat} (hS : ∀ i, S i < 256) {p : Nat → Nat} {T r j : Nat} (h : sq_in S (sq_nm p T r j)) : 5 + j ≤ 352 ∧ T ≤ sq_val S (5 + j) ∧ sq_val S (5 + j) < T + r ∧ (r < 16777216 → 5 + j < 352) := by
  by_cases c : r < 16777216
  · rw [sq_nm_lt c] at h
    obtain ⟨h1, h2, h3⟩ := h
    have h1' : 5 + (j + 1) ≤ 352 := h1
    have h2' : T * 256 ≤ sq_val S (5 + j + 1) := h2
    have h3' : sq_val S (5 + j + 1) < T * 256 + r * 256 := h3
    rw [sq_val_s] at h2' h3'
    have h4 := hS (5 + j)
    exact ⟨by omega, by omega, by omega, fun _ => by omega⟩
  · rw [sq_nm_ge c] at h
    obtain ⟨h1, h2, h3⟩ := h
    exact ⟨h1, h2, h3, fun z => absurd z c⟩
theorem sq_in_step {S : Nat → Nat} (hS : ∀ i, S i < 256) {s : sq_S} {d : Nat × Nat} (hs : sq_ok s) (h : sq_in S (sq_step s d)) : sq_in S s := by
  obtain ⟨h1, h2, h3⟩ := hs
  obtain ⟨g1, g2, g3, _⟩ := sq_nm_in hS h
  have hT := sq_T1_in s.2.1 d.1 d.2 h1 h2
  exact ⟨g1, by omega, by omega⟩
def sq_run (s : sq_S) (l : List (Nat × Nat)) : sq_S := l.foldl sq_step s
theorem sq_run_0 (s : sq_S) : sq_run s [] = s := rfl
theorem sq_run_c (s : sq_S) (d : Nat × Nat) (l : List (Nat × Nat)) : sq_run s (d :: l) = sq_run (sq_step s d) l := rfl
theorem sq_run_a (s : sq_S) (l m : List (Nat × Nat)) : sq_run s (l ++ m) = sq_run (sq_run s l) m := List.foldl_append
theorem sq_run_ok {l : List (Nat × Nat)} : ∀ {s : sq_S}, sq_ok s → sq_ok (sq_run s l) := by
  induction l with
  | nil => exact fun h => h
  | cons d l ih => exact fun h => ih (sq_step_ok d h)
theorem sq_run_in {S : Nat → Nat} (hS : ∀ i, S i < 256) {l : List (Nat × Nat)} : ∀ {s : sq_S}, sq_ok s → sq_in S (sq_run s l) → sq_in S s := by
  induction l with
  | nil => exact fun _ h => h
  | cons d l ih => exact fun h g => sq_in_step hS h (ih (sq_step_ok d h) g)
theorem sq_run_j {l : List (Nat × Nat)} : ∀ {s : sq_S}, (sq_run s l).2.2.2 ≤ s.2.2.2 + l.length := by
  induction l with
  | nil => exact fun {s} => Nat.le_refl _
  | cons d l ih =>
    intro s
    have h1 := ih (s := sq_step s d)
    have h2 : (sq_step s d).2.2.2 ≤ s.2.2.2 + 1 := sq_nm_j
    rw [sq_run_c, List.length_cons]
    omega
/-- the decisions of a tree of k bits below a node -/
def sq_tree (o v : Nat) : Nat → Nat → List (Nat × Nat)
  | 0 => fun _ => []
  | k + 1 => fun m => (o + m, v / 2 ^ k % 2) :: sq_tree o v k (2 * m + v / 2 ^ k % 2)
theorem sq_tree_s (o v k m : Nat) : sq_tree o v (k + 1) m = (o + m, v / 2 ^ k % 2) :: sq_tree o v k (2 * m + v / 2 ^ k % 2) := rfl
theorem sq_tree_l (o v k : Nat) : ∀ m, (sq_tree o v k m).length = k := by
  induction k with
  | zero => exact fun _ => rfl
  | succ k ih =>
    intro m
    rw [sq_tree_s, List.length_cons, ih]
theorem sq_node {m k M b : Nat} (h : (m + 1) * 2 ^ (k + 1) ≤ 2 * M) (hb : b < 2) : m < M ∧ (2 * m + b + 1) * 2 ^ k ≤ 2 * M := by
  have h0 : 1 ≤ 2 ^ k := Nat.one_le_two_pow
  have h1 : (m + 1) * 2 ^ (k + 1) = (2 * m + 2) * 2 ^ k := by
    rw [Nat.pow_succ, show 2 * m + 2 = (m + 1) * 2 by omega, Nat.mul_assoc, Nat.mul_comm (2 ^ k) 2]
  have h2 : (2 * m + b + 1) * 2 ^ k ≤ (2 * m + 2) * 2 ^ k := Nat.mul_le_mul (by omega) (Nat.le_refl _)
  have h3 : (2 * m + 2) * 1 ≤ (2 * m + 2) * 2 ^ k := Nat.mul_le_mul (Nat.le_refl _) h0
  omega
theorem sq_nodeV (m k v : Nat) : m * 2 ^ (k + 1) + v % 2 ^ (k + 1) = (2 * m + v / 2 ^ k % 2) * 2 ^ k + v % 2 ^ k := by
  have h1 : v % 2 ^ (k + 1) = v % 2 ^ k + 2 ^ k * (v / 2 ^ k % 2) := by
    rw [Nat.pow_succ, Nat.mod_mul]
  rw [h1, Nat.pow_succ, Nat.add_mul, Nat.mul_comm (2 ^ k) (v / 2 ^ k % 2), Nat.mul_comm (2 ^ k) 2, ← Nat.mul_assoc, Nat.mul_comm m 2]
  omega
def sq_lit (v be : Nat) : List (Nat × Nat) := (be, 0) :: sq_tree 66 v 8 1
def sq_mat (be m d : Nat) : List (Nat × Nat) := (be, 1) :: (sq_tree 322 (m - 2) 3 1 ++ sq_tree 330 (d - 1) 6 1)
theorem sq_lit_l (v be : Nat) : (sq_lit v be).length = 9 := by
  unfold sq_lit
  rw [List.length_cons, sq_tree_l]
theorem sq_mat_l (be m d : Nat) : (sq_mat be m d).length = 10 := by
  unfold sq_mat
  rw [List.length_cons, List.length_append, sq_tree_l, sq_tree_l]
/-- what is left for the reader to walk: fuel, the last kind, the place, the coder -/
def sq_dec (S D : Nat → Nat) (n : Nat) : Nat → Nat → Nat → sq_S → Prop
  | 0 => fun _ i s => i = n ∧ sq_in S s
  | f + 1 => fun be i s => (i = n ∧ sq_in S s) ∨ (i < n ∧ sq_dec S D n f 0 (i + 1) (sq_run s (sq_lit (D i) be))) ∨ (∃ m d, 2 ≤ m ∧ m ≤ 9 ∧ 1 ≤ d ∧ d ≤ i ∧ i + m ≤ n ∧ (∀ k, k < m → D (i + k) = D (i + k - d)) ∧ sq_dec S D n f 1 (i + m) (sq_run s (sq_mat be m d)))
theorem sq_dec_in {S D : Nat → Nat} (hS : ∀ i, S i < 256) {n f : Nat} : ∀ {be i : Nat} {s : sq_S}, sq_ok s → sq_dec S D n f be i s → sq_in S s := by
  induction f with
  | zero => exact fun _ h => h.2
  | succ f ih =>
    intro be i s hs h
    rcases h with h | ⟨_, h⟩ | ⟨m, d, _, _, _, _, _, _, h⟩
    · exact h.2
    · exact sq_run_in hS hs (ih (sq_run_ok hs) h)
    · exact sq_run_in hS hs (ih (sq_run_ok hs) h)
def sq_s0 : sq_S := (fun _ => 1024, 0, 4294967295, 0)
theorem sq_s0_ok : sq_ok sq_s0 := ⟨fun _ => (by decide : 31 ≤ 1024 ∧ 1024 ≤ 2017), (by decide : 16777216 ≤ 4294967295), (by decide : 4294967295 < 4294967296)⟩
end
end
section
section
/-! pasted out of laws/BITS.to-paste: a byte read unsigned; lN n to 2^64; an 'or' that is a sum -/
theorem bp_b (x : Int32) : x.toInt8.toInt32 &&& 255 = x &&& 255 := by
  apply Int32.toBitVec_inj.mp
  rw [Int32.toBitVec_and, Int32.toBitVec_and, Int8.toBitVec_toInt32, Int32.toBitVec_toInt8]
  apply BitVec.eq_of_getLsbD_eq
  intro i hi
  rw [BitVec.getLsbD_and, BitVec.getLsbD_and]
  have hm : ∀ i < 32, 8 ≤ i → (255 : Int32).toBitVec.getLsbD i = false := by decide
  rcases Nat.lt_or_ge i 8 with z | z
  · rw [BitVec.getLsbD_signExtend, BitVec.getLsbD_signExtend, if_pos z, if_pos hi]
    simp only [z, hi, decide_true, Bool.true_and]
  · rw [hm i hi z]; simp
theorem wb_tb (n : Nat) : (lN n).toBitVec = BitVec.ofNat 64 n := rfl
theorem wb_inj {a b : Int64} (h : a.toBitVec = b.toBitVec) : a = b := Int64.toBitVec_inj.mp h
theorem wb_tn {n : Nat} (h : n < 2 ^ 64) : (lN n).toBitVec.toNat = n := by rw [wb_tb, BitVec.toNat_ofNat, Nat.mod_eq_of_lt h]
theorem wb_c : ∀ k, k < 64 → ((nI k).toInt64 &&& 63) = lN k := by decide +kernel
theorem wb_cu : ∀ k, k < 64 → ((nI k).toInt64.toUInt64 &&& Int64.toUInt64 63) = UInt64.ofNat k := by decide +kernel
theorem wb_sm : ∀ k, k < 64 → (BitVec.ofNat 64 k).smod 64 = BitVec.ofNat 64 k := by decide +kernel
theorem wb_lt2 {a b : Nat} (h : a < b) : 2 ^ a < 2 ^ b := Nat.pow_lt_pow_right (by decide) h
theorem wb_shr {n k : Nat} (hn : n < 2 ^ 64) (hk : k < 64) : ((lN n).toUInt64 >>> ((nI k).toInt64.toUInt64 &&& Int64.toUInt64 63)).toInt64 = lN (n / 2 ^ k) := by
  rw [wb_cu k hk]
  apply wb_inj
  apply BitVec.eq_of_toNat_eq
  show ((lN n).toUInt64 >>> UInt64.ofNat k).toNat = (BitVec.ofNat 64 _).toNat
  have h1 : (UInt64.ofNat k).toNat = k := by
    show (BitVec.ofNat 64 k).toNat = k
    rw [BitVec.toNat_ofNat, Nat.mod_eq_of_lt (by omega)]
  have h2 : (lN n).toUInt64.toNat = n := wb_tn hn
  rw [UInt64.toNat_shiftRight, h1, h2, Nat.mod_eq_of_lt hk, Nat.shiftRight_eq_div_pow, BitVec.toNat_ofNat, Nat.mod_eq_of_lt (Nat.lt_of_le_of_lt (Nat.div_le_self _ _) hn)]
theorem wb_shl (n : Nat) {k : Nat} (hk : k < 64) : lN n <<< ((nI k).toInt64 &&& 63) = lN (n * 2 ^ k) := by
  rw [wb_c k hk]
  apply wb_inj
  rw [Int64.toBitVec_shiftLeft, wb_tb, wb_tb, wb_tb, wb_sm k hk]
  apply BitVec.eq_of_toNat_eq
  rw [BitVec.shiftLeft_eq', BitVec.toNat_shiftLeft, BitVec.toNat_ofNat, BitVec.toNat_ofNat, BitVec.toNat_ofNat, Nat.mod_eq_of_lt (show k < 2 ^ 64 by omega), Nat.shiftLeft_eq, Nat.mul_mod, Nat.mod_mod, ← Nat.mul_mod]
theorem wb_and {a b : Nat} (ha : a < 2 ^ 64) (hb : b < 2 ^ 64) : lN a &&& lN b = lN (a &&& b) := by
  apply wb_inj
  rw [Int64.toBitVec_and, wb_tb, wb_tb, wb_tb]
  apply BitVec.eq_of_toNat_eq
  rw [BitVec.toNat_and, BitVec.toNat_ofNat, BitVec.toNat_ofNat, BitVec.toNat_ofNat, Nat.mod_eq_of_lt ha, Nat.mod_eq_of_lt hb, Nat.mod_eq_of_lt (Nat.and_lt_two_pow _ hb)]
theorem wb_mask {n k : Nat} (hn : n < 2 ^ 64) (hk : k < 64) : lN n &&& lN (2 ^ k - 1) = lN (n % 2 ^ k) := by
  rw [wb_and hn (by have := wb_lt2 hk; omega), Nat.and_two_pow_sub_one_eq_mod]
theorem sq_utn {n : Nat} (h : n < 2 ^ 64) : (UInt64.ofNat n).toNat = n := Nat.mod_eq_of_lt h
theorem sq_gor {k p a b : Nat} (hp : 2 ^ k = p) (ha : a < p) (h : b * p + a < 2 ^ 64) : lN (b * p) ||| lN a = lN (b * p + a) := by
  subst hp
  have h1 : b * 2 ^ k ||| a = b * 2 ^ k + a := by rw [← Nat.shiftLeft_eq, Nat.shiftLeft_add_eq_or_of_lt ha]
  have h3 : UInt64.ofNat (b * 2 ^ k) ||| UInt64.ofNat a = UInt64.ofNat (b * 2 ^ k + a) := UInt64.toNat_inj.mp (by rw [UInt64.toNat_or, sq_utn (by omega), sq_utn (by omega), sq_utn h, h1])
  have h2 := congrArg UInt64.toInt64 h3
  exact h2
end
section
/-! own rows over them -/
theorem sq_lle {x y : Int64} {A B : Prop} (a b : Nat) (f : a ≤ b → A) (g : b < a → B) (hx : x = lN a := by rfl) (hy : y = lN b := by rfl) (ha : a < 2 ^ 63 := by omega) (hb : b < 2 ^ 63 := by omega) : (x ≤ y → A) ∧ (¬ x ≤ y → B) := by
  subst hx hy
  rw [pk_lLE ha hb]
  exact ⟨f, fun h => g (by omega)⟩
theorem sq_llt {x y : Int64} {A B : Prop} (a b : Nat) (f : a < b → A) (g : b ≤ a → B) (hx : x = lN a := by rfl) (hy : y = lN b := by rfl) (ha : a < 2 ^ 63 := by omega) (hb : b < 2 ^ 63 := by omega) : (x < y → A) ∧ (¬ x < y → B) := by
  subst hx hy
  rw [pk_lLT ha hb]
  exact ⟨f, fun h => g (by omega)⟩
theorem sq_shr11 {n : Nat} (h : n < 2 ^ 63) : ((lN n).toUInt64 >>> ((11 : Int32).toInt64.toUInt64 &&& Int64.toUInt64 63)).toInt64 = lN (n / 2048) := wb_shr (k := 11) (by omega) (by decide)
theorem sq_shr24 {n : Nat} (h : n < 2 ^ 63) : ((lN n).toUInt64 >>> ((24 : Int32).toInt64.toUInt64 &&& Int64.toUInt64 63)).toInt64 = lN (n / 16777216) := wb_shr (k := 24) (by omega) (by decide)
theorem sq_shr32 {n : Nat} (h : n < 2 ^ 63) : ((lN n).toUInt64 >>> ((32 : Int32).toInt64.toUInt64 &&& Int64.toUInt64 63)).toInt64 = lN (n / 4294967296) := wb_shr (k := 32) (by omega) (by decide)
theorem sq_shl8 (n : Nat) : lN n <<< ((8 : Int32).toInt64 &&& 63) = lN (n * 256) := wb_shl n (k := 8) (by decide)
theorem sq_m24 {n : Nat} (h : n < 2 ^ 63) : lN n &&& 16777215 = lN (n % 16777216) := wb_mask (k := 24) (by omega) (by decide)
theorem sq_m32 {n : Nat} (h : n < 2 ^ 63) : lN n &&& 4294967295 = lN (n % 4294967296) := wb_mask (k := 32) (by omega) (by decide)
theorem sq_or8 {a b : Nat} (h : a < 256) (hb : b < 2 ^ 48) : lN (b * 256) ||| lN a = lN (b * 256 + a) := sq_gor (k := 8) (by decide) h (by omega)
def sq_b8 (x : Int32) : Nat := x.toBitVec.toNat % 256
def sq_by (a : Nat → Int32) (b : Nat) : Nat → Nat := fun i => sq_b8 (a (b + i))
theorem sq_b8_lt (x : Int32) : sq_b8 x < 256 := Nat.mod_lt _ (by decide)
theorem sq_by_lt (a : Nat → Int32) (b i : Nat) : sq_by a b i < 256 := sq_b8_lt _
theorem sq_b8_and (x : Int32) : x &&& 255 = nI (sq_b8 x) := pk_and x 8 (by decide)
theorem sq_b8_nI {n : Nat} (h : n < 2 ^ 32) : sq_b8 (nI n) = n % 256 := by
  unfold sq_b8
  rw [pk_tn h]
theorem sq_b8_put (x : Int32) : sq_b8 (x.toInt8.toInt32) = sq_b8 x := by
  have h := bp_b x
  rw [sq_b8_and, sq_b8_and] at h
  exact (nI_eq (Nat.lt_trans (sq_b8_lt _) (by decide)) (Nat.lt_trans (sq_b8_lt _) (by decide))).mp h
theorem sq_by_put (a : Nat → Int32) (b w : Nat) (x : Int32) : sq_by (upd a (b + w) (x.toInt8.toInt32)) b w = sq_b8 x := by
  unfold sq_by
  rw [pk_us, sq_b8_put]
theorem sq_by_old (a : Nat → Int32) (b w i : Nat) (x : Int32) (h : i ≠ w) : sq_by (upd a (b + w) x) b i = sq_by a b i := by
  unfold sq_by
  rw [pk_un (by omega)]
theorem sq_val_put (a : Nat → Int32) (b w : Nat) (x : Int32) : sq_val (sq_by (upd a (b + w) (x.toInt8.toInt32)) b) (w + 1) = sq_val (sq_by a b) w * 256 + sq_b8 x := by
  rw [sq_val_s, sq_by_put, sq_val_congr w (fun i hi => sq_by_old a b w i _ (by omega))]
/-- bytes written, the held byte, the run of 255, the low end: together T -/
def sq_W (A : Nat → Int32) (b T r j l h c w : Nat) (a3 : Nat → Int32) : Prop :=
  h < 256 ∧ 1 ≤ c ∧ w + c = j + 1 ∧ 1 ≤ r ∧ l + r ≤ 8589934592 ∧ (h = 255 → l + r ≤ 4294967296) ∧
  T + 4294967296 = (sq_val (sq_by a3 b) w * 256 + h + 1) * 256 ^ (c - 1) * 4294967296 + l ∧ (∀ k, k < b ∨ b + 352 ≤ k → a3 k = A k)
theorem sq_W_bit {A : Nat → Int32} {b T r j l h c w T' r' l' : Nat} {a3 : Nat → Int32} (k : sq_W A b T r j l h c w a3) (h1 : 1 ≤ r') (h2 : T' + l = T + l') (h3 : l' + r' ≤ l + r) : sq_W A b T' r' j l' h c w a3 := by
  obtain ⟨k1, k2, k3, k4, k5, k6, k7, k8⟩ := k
  exact ⟨k1, k2, k3, h1, by omega, fun z => by have := k6 z; omega, by omega, k8⟩
theorem sq_W_keep {A : Nat → Int32} {b T r j l h c w : Nat} {a3 : Nat → Int32} (k : sq_W A b T r j l h c w a3) (hr : r ≤ 16777216) (h1 : 4278190080 ≤ l) (h2 : l < 4294967296) : sq_W A b (T * 256) (r * 256) (j + 1) (l % 16777216 * 256) h (c + 1) w a3 := by
  obtain ⟨k1, k2, k3, k4, k5, k6, k7, k8⟩ := k
  refine ⟨k1, by omega, by omega, by omega, by omega, fun z => by have := k6 z; omega, ?_, k8⟩
  have e : (sq_val (sq_by a3 b) w * 256 + h + 1) * 256 ^ (c + 1 - 1) = (sq_val (sq_by a3 b) w * 256 + h + 1) * 256 ^ (c - 1) * 256 := by
    rw [show c + 1 - 1 = (c - 1) + 1 by omega, Nat.pow_succ, Nat.mul_assoc]
  rw [e]
  omega
theorem sq_W_emit {A : Nat → Int32} {b T r j l h c w : Nat} {a3 a3' : Nat → Int32} (k : sq_W A b T r j l h c w a3) (hr : r ≤ 16777216) (h1 : l < 4278190080 ∨ 4294967296 ≤ l)
    (hv : sq_val (sq_by a3' b) (w + c) + 1 = (sq_val (sq_by a3 b) w * 256 + h + 1) * 256 ^ (c - 1) + l / 4294967296) (hf : ∀ k, k < b ∨ b + 352 ≤ k → a3' k = A k) :
    sq_W A b (T * 256) (r * 256) (j + 1) (l % 16777216 * 256) (l / 16777216 % 256) 1 (w + c) a3' := by
  obtain ⟨k1, k2, k3, k4, k5, k6, k7, k8⟩ := k
  refine ⟨by omega, by omega, by omega, by omega, by omega, fun z => by omega, ?_, hf⟩
  rw [show (1 : Nat) - 1 = 0 from rfl, Nat.pow_zero, Nat.mul_one]
  generalize (sq_val (sq_by a3 b) w * 256 + h + 1) * 256 ^ (c - 1) = X at k7 hv
  omega
end
end
section
section
variable {dl pl fi co : Int32} {lo ra : Int64} {he hc ba wr : Int32} {cd : Int64} {rd ml md : Int32} {a1 a2 a3 a4 : Nat → Int32}
theorem sq_su : ∀ n, n < 32 → (((nI n).toUInt32 &&& Int32.toUInt32 31).toBitVec % 32).toNat = n := by decide +kernel
theorem sq_sl : ∀ n, n < 32 → ((nI n &&& 31).toBitVec.smod 32).toNat = n := by decide +kernel
theorem sq_sr5 {n : Nat} (h : n < 2 ^ 31) : nI n >>> ((5 : Int32) &&& 31) = nI (n / 32) := pk_shrN h _ 5 (by decide)
theorem sq_and255 {n : Nat} (h : n < 2 ^ 32) : nI n &&& 255 = nI (n % 256) := pk_andN h 8 (by decide)
theorem sq_and1 {n : Nat} (h : n < 2 ^ 32) : nI n &&& 1 = nI (n % 2) := pk_andN h 1 (by decide)
theorem sq_pm1 (x : Int32) : x + (-1) = x - 1 := (Int32.sub_eq_add_neg x 1).symm
theorem sq_bitk {v k : Nat} (hv : v < 2 ^ 31) (hk : k < 32) : (((nI v).toUInt32 >>> ((nI k).toUInt32 &&& Int32.toUInt32 31)).toInt32) &&& 1 = nI (v / 2 ^ k % 2) := by
  have h : v / 2 ^ k ≤ v := Nat.div_le_self _ _
  rw [pk_ushrN (by omega) (nI k) k (sq_su k hk), sq_and1 (by omega)]
theorem sq_2mb (m q : Nat) : (2 : Int32) * nI m + nI q = nI (2 * m + q) := by
  rw [show (2 : Int32) * nI m = nI (2 * m) from pk_mul 2 m, nI_add]
theorem sq_putByte {post : St2 → Prop} {b w : Nat} {x : Int32} (hw : w < 352) (hb : b + 352 ≤ 1408) (H : post (dl, pl, fi, co, lo, ra, he, hc, nI b, nI (w + 1), cd, rd, ml, md, a1, a2, upd a3 (b + w) (x.toInt8.toInt32), a4)) : wpX_putByte post (dl, pl, fi, co, lo, ra, he, hc, nI b, nI w, cd, rd, ml, md, a1, a2, a3, a4) x :=
  pk_le 352 w (fun z => absurd z (by omega)) (fun _ => ⟨pk_in (b + w) 1408 (by omega) (nI_add b w), nm_r (by rw [pk_cl (b + w) (nI_add b w)]) (nm_r (nI_1 w) H)⟩)
theorem sq_learn {post : St2 → Prop} {p : Nat → Nat} {c b : Nat} (hcl : c < 394) (hb : b < 2) (hp : sq_P p) (h4 : ∀ k, k < 394 → a4 k = nI (p k)) (H : ∀ a4', (∀ k, k < 394 → a4' k = nI (sq_lp p c b k)) → post (dl, pl, fi, co, lo, ra, he, hc, ba, wr, cd, rd, ml, md, a1, a2, a3, a4')) : wpX_learn post (dl, pl, fi, co, lo, ra, he, hc, ba, wr, cd, rd, ml, md, a1, a2, a3, a4) (nI c) (nI b) := by
  have hp' := hp c
  have e0 : (nI c).toNatClampNeg = c := nI_clamp (by omega)
  have F : ∀ x, x = nI (sq_lp p c b c) → ∀ k, k < 394 → upd a4 c x k = nI (sq_lp p c b k) := by
    intro x hx k hk
    by_cases e : k = c
    · rw [e, pk_us, hx]
    · rw [pk_un e, h4 k hk]
      unfold sq_lp
      rw [if_neg e]
  have hin : vp_in (nI c) 394 := pk_in c 394 hcl
  refine pk_eq b 0 (fun z => ⟨hin, hin, hin, fun x ex => H x ?_⟩) (fun z => ⟨hin, hin, hin, fun x ex => H x ?_⟩)
  · rw [ex, e0]
    refine F _ ?_
    rw [h4 c hcl, show (2048 : Int32) - nI (p c) = nI (2048 - p c) from pk_sub (a := 2048) (by omega), sq_sr5 (by omega), nI_add]
    unfold sq_lp
    rw [if_pos rfl, if_pos z]
  · rw [ex, e0]
    refine F _ ?_
    rw [h4 c hcl, sq_sr5 (by omega), pk_sub (by omega)]
    unfold sq_lp
    rw [if_pos rfl, if_neg z]
theorem sq_sl91 {post : St2 → Prop} {l c : Nat} (hl : l < 2 ^ 63) (H : post (dl, pl, fi, co, lN (l % 16777216 * 256), ra, he, nI (c + 1), ba, wr, cd, rd, ml, md, a1, a2, a3, a4)) : wX_shiftLow_91 post dl pl fi co (lN l) ra he (nI c) ba wr cd rd ml md a1 a2 a3 a4 :=
  nm_r (nI_1 c) (nm_r (by rw [sq_m24 hl, sq_shl8]) H)
theorem sq_sl70 {post : St2 → Prop} {l : Nat} (hl : l < 2 ^ 34) (H : post (dl, pl, fi, co, lN (l % 16777216 * 256), ra, nI (l / 16777216 % 256), nI 1, ba, wr, cd, rd, ml, md, a1, a2, a3, a4)) : wX_shiftLow_70 post dl pl fi co (lN l) ra he hc ba wr cd rd ml md a1 a2 a3 a4 :=
  nm_r (by rw [sq_shr24 (by omega), lN_i, sq_and255 (by omega)]) (sq_sl91 (c := 0) (by omega) H)
theorem sq_sl38 {post : St2 → Prop} {A : Nat → Int32} {b w0 c cy V h : Nat} (hb : b + 352 ≤ 1408) (hc : w0 + c ≤ 352) (hcy : cy < 2)
    (H : ∀ a3', sq_val (sq_by a3' b) (w0 + c) + 1 = (V * 256 + h + 1) * 256 ^ (c - 1) + cy → (∀ k, k < b ∨ b + 352 ≤ k → a3' k = A k) → wX_shiftLow_70 post dl pl fi co lo ra he (nI c) (nI b) (nI (w0 + c)) cd rd ml md a1 a2 a3' a4) :
    ∀ (m fu k : Nat) (a3 : Nat → Int32), k + m = c → m < fu → 1 ≤ k → sq_val (sq_by a3 b) (w0 + k) + 1 = (V * 256 + h + 1) * 256 ^ (k - 1) + cy → (∀ i, i < b ∨ b + 352 ≤ i → a3 i = A i) → wX_shiftLow_38 post (nI cy) fu 255 (nI k) dl pl fi co lo ra he (nI c) (nI b) (nI (w0 + k)) cd rd ml md a1 a2 a3 a4 := by
  intro m
  induction m with
  | zero =>
    intro fu k a3 hk hf h1 hv hA
    obtain ⟨n, rfl⟩ : ∃ n, fu = n + 1 := ⟨fu - 1, by omega⟩
    have e : k = c := by omega
    subst e
    exact pk_le k k (fun _ => H a3 hv hA) (fun z => absurd z (by omega))
  | succ m ih =>
    intro fu k a3 hk hf h1 hv hA
    obtain ⟨n, rfl⟩ : ∃ n, fu = n + 1 := ⟨fu - 1, by omega⟩
    refine pk_le c k (fun z => absurd z (by omega)) (fun _ => pk_le 352 k (fun z => absurd z (by omega)) (fun _ => sq_putByte (by omega) hb (nm_r (nI_1 k) ?_)))
    refine ih n (k + 1) _ (by omega) (by omega) (by omega) ?_ ?_
    · have e1 := sq_val_put a3 b (w0 + k) (255 + nI cy)
      have e2 : sq_b8 (255 + nI cy) = (255 + cy) % 256 := by
        rw [show (255 : Int32) + nI cy = nI (255 + cy) from nI_add 255 cy, sq_b8_nI (by omega)]
      have e3 : (V * 256 + h + 1) * 256 ^ (k + 1 - 1) = (V * 256 + h + 1) * 256 ^ (k - 1) * 256 := by
        rw [show k + 1 - 1 = (k - 1) + 1 by omega, Nat.pow_succ, Nat.mul_assoc]
      rw [e2] at e1
      rw [e3]
      generalize (V * 256 + h + 1) * 256 ^ (k - 1) = X at hv ⊢
      have e4 : sq_val (sq_by (upd a3 (b + (w0 + k)) ((255 + nI cy).toInt8.toInt32)) b) (w0 + (k + 1)) = sq_val (sq_by a3 b) (w0 + k) * 256 + (255 + cy) % 256 := e1
      rw [e4]
      omega
    · intro i hi
      rw [pk_un (by omega)]
      exact hA i hi
theorem sq_sl22 {post : St2 → Prop} {A : Nat → Int32} {b l h c w : Nat} (hb : b + 352 ≤ 1408) (hl : l < 8589934592) (h1 : 1 ≤ c) (hc : w + c ≤ 352) (hh : h + l / 4294967296 < 256) (hA : ∀ i, i < b ∨ b + 352 ≤ i → a3 i = A i)
    (H : ∀ a3', sq_val (sq_by a3' b) (w + c) + 1 = (sq_val (sq_by a3 b) w * 256 + h + 1) * 256 ^ (c - 1) + l / 4294967296 → (∀ k, k < b ∨ b + 352 ≤ k → a3' k = A k) → wX_shiftLow_70 post dl pl fi co (lN l) ra (nI h) (nI c) (nI b) (nI (w + c)) cd rd ml md a1 a2 a3' a4) :
    wX_shiftLow_22 post dl pl fi co (lN l) ra (nI h) (nI c) (nI b) (nI w) cd rd ml md a1 a2 a3 a4 := by
  refine nm_r (e' := nI (l / 4294967296)) (by rw [sq_shr32 (by omega), lN_i]) ⟨c + 1, ?_⟩
  refine pk_le c 0 (fun z => absurd z (by omega)) (fun _ => pk_le 352 0 (fun z => absurd z (by omega)) (fun _ => sq_putByte (by omega) hb (nm_r (nI_1 0) ?_)))
  refine sq_sl38 (A := A) (w0 := w) (V := sq_val (sq_by a3 b) w) (h := h) hb hc (by omega) H (c - 1) c 1 _ (by omega) (by omega) (by omega) ?_ ?_
  · have e1 := sq_val_put a3 b w (nI h + nI (l / 4294967296))
    rw [nI_add, sq_b8_nI (by omega), Nat.mod_eq_of_lt hh] at e1
    rw [nI_add, e1, show (1 : Nat) - 1 = 0 from rfl, Nat.pow_zero]
    omega
  · intro i hi
    rw [pk_un (by omega)]
    exact hA i hi
theorem sq_shiftLow {post : St2 → Prop} {A : Nat → Int32} {b T r j l h c w : Nat} (hb : b + 352 ≤ 1408) (hr : r ≤ 16777216) (hj : j + 1 ≤ 352) (hW : sq_W A b T r j l h c w a3)
    (H : ∀ h' c' w' a3', sq_W A b (T * 256) (r * 256) (j + 1) (l % 16777216 * 256) h' c' w' a3' → (l < 4278190080 → c' = 1 ∧ h' = l / 16777216) → post (dl, pl, fi, co, lN (l % 16777216 * 256), ra, nI h', nI c', nI b, nI w', cd, rd, ml, md, a1, a2, a3', a4)) :
    wpX_shiftLow post (dl, pl, fi, co, lN l, ra, nI h, nI c, nI b, nI w, cd, rd, ml, md, a1, a2, a3, a4) := by
  obtain ⟨k1, k2, k3, k4, k5, k6, k7, k8⟩ := id hW
  have em : (l < 4278190080 ∨ 4294967296 ≤ l) → wX_shiftLow_22 post dl pl fi co (lN l) ra (nI h) (nI c) (nI b) (nI w) cd rd ml md a1 a2 a3 a4 := by
    intro hz
    refine sq_sl22 (A := A) hb (by omega) k2 (by omega) (by omega) k8 (fun a3' hv hf => sq_sl70 (by omega) (H _ 1 _ a3' (sq_W_emit hW hr hz hv hf) (fun z => ⟨rfl, by omega⟩)))
  exact sq_llt l 4278190080 (fun z => em (Or.inl z)) (fun z => sq_lle l 4294967295 (fun z2 => sq_sl91 (by omega) (H h (c + 1) w a3 (sq_W_keep hW hr z (by omega)) (fun z3 => absurd z3 (by omega)))) (fun z2 => em (Or.inr (by omega))))
def sq_E (A : Nat → Int32) (b : Nat) (s : sq_S) (lo ra : Int64) (he hc wr : Int32) (a3 a4 : Nat → Int32) : Prop :=
  sq_ok s ∧ (∀ k, k < 394 → a4 k = nI (s.1 k)) ∧ ra = lN s.2.2.1 ∧ ∃ l h c w : Nat, lo = lN l ∧ he = nI h ∧ hc = nI c ∧ wr = nI w ∧ sq_W A b s.2.1 s.2.2.1 s.2.2.2 l h c w a3
theorem sq_wb48 {post : St2 → Prop} {A : Nat → Int32} {p : Nat → Nat} {b T r j l h c w cx bit : Nat} (hb : b + 352 ≤ 1408) (hj : j + 1 ≤ 352) (hcx : cx < 394) (hbit : bit < 2) (hp : sq_P p) (h4 : ∀ k, k < 394 → a4 k = nI (p k)) (hr : 253952 ≤ r) (hr2 : r < 4294967296) (hW : sq_W A b T r j l h c w a3)
    (H : ∀ lo' ra' he' hc' wr' a3' a4', sq_E A b (sq_nm (sq_lp p cx bit) T r j) lo' ra' he' hc' wr' a3' a4' → post (dl, pl, fi, co, lo', ra', he', hc', nI b, wr', cd, rd, ml, md, a1, a2, a3', a4')) :
    wX_writeBit_48 post (nI cx) (nI bit) dl pl fi co (lN l) (lN r) (nI h) (nI c) (nI b) (nI w) cd rd ml md a1 a2 a3 a4 := by
  have hok := sq_nm_ok (T := T) (j := j) (sq_lp_P (c := cx) (b := bit) hp) hr hr2
  unfold wX_writeBit_48
  refine sq_learn hcx hbit hp h4 (fun a4' h4' => ?_)
  refine sq_lle 16777216 r (fun z => ?_) (fun z => nm_r (sq_shl8 r) (sq_shiftLow hb (by omega) hj hW (fun h' c' w' a3' k1 _ => ?_)))
  · refine H _ _ _ _ _ _ _ ?_
    rw [sq_nm_ge (by omega)] at hok ⊢
    exact ⟨hok, h4', rfl, l, h, c, w, rfl, rfl, rfl, rfl, hW⟩
  · refine H _ _ _ _ _ _ _ ?_
    rw [sq_nm_lt z] at hok ⊢
    exact ⟨hok, h4', rfl, _, h', c', w', rfl, rfl, rfl, rfl, k1⟩
theorem sq_writeBit {post : St2 → Prop} {A : Nat → Int32} {s : sq_S} {b : Nat} (cx bit : Nat) (hb : b + 352 ≤ 1408) (hj : s.2.2.2 + 1 ≤ 352) (hcx : cx < 394) (hbit : bit < 2) (hE : sq_E A b s lo ra he hc wr a3 a4)
    (H : ∀ lo' ra' he' hc' wr' a3' a4', sq_E A b (sq_step s (cx, bit)) lo' ra' he' hc' wr' a3' a4' → post (dl, pl, fi, co, lo', ra', he', hc', nI b, wr', cd, rd, ml, md, a1, a2, a3', a4')) :
    wpX_writeBit post (dl, pl, fi, co, lo, ra, he, hc, nI b, wr, cd, rd, ml, md, a1, a2, a3, a4) (nI cx) (nI bit) := by
  obtain ⟨⟨hp, hr, hr2⟩, h4, rfl, l, h, c, w, rfl, rfl, rfl, rfl, hW⟩ := hE
  have hB := sq_bd_in cx hp hr
  have hp' := hp cx
  refine ⟨pk_in cx 394 hcx, nm_r (e' := lN (sq_bd s.1 s.2.2.1 cx)) ?_ (pk_eq bit 0 (fun z => ?_) (fun z => ?_))⟩
  · rw [nI_clamp (by omega), h4 cx hcx, sq_shr11 (by omega), nI_l (by omega), lN_mul]
    rfl
  · have e : sq_step s (cx, bit) = sq_nm (sq_lp s.1 cx bit) s.2.1 (sq_bd s.1 s.2.2.1 cx) s.2.2.2 := by
      unfold sq_step sq_T1 sq_r1
      rw [if_pos z, if_pos z]
    rw [e] at H
    exact sq_wb48 hb hj hcx hbit hp h4 hB.1 (by omega) (sq_W_bit hW (by omega) rfl (by omega)) H
  · have e : sq_step s (cx, bit) = sq_nm (sq_lp s.1 cx bit) (s.2.1 + sq_bd s.1 s.2.2.1 cx) (s.2.2.1 - sq_bd s.1 s.2.2.1 cx) s.2.2.2 := by
      unfold sq_step sq_T1 sq_r1
      rw [if_neg z, if_neg z]
    rw [e] at H
    exact nm_r (lN_add l _) (nm_r (lN_sub (by omega)) (sq_wb48 hb hj hcx hbit hp h4 (by omega) (by omega) (sq_W_bit hW (by omega) (by omega) (by omega)) H))
theorem sq_wt8 {post : St2 → Prop} {A : Nat → Int32} {b o v M : Nat} (hb : b + 352 ≤ 1408) (hM : o + M ≤ 394) (hv : v < 2 ^ 31) :
    ∀ (k fu m : Nat) (s : sq_S) (lo ra : Int64) (he hc wr : Int32) (a3 a4 : Nat → Int32), k < fu → k ≤ 8 → s.2.2.2 + k ≤ 351 → (m + 1) * 2 ^ k ≤ 2 * M → sq_E A b s lo ra he hc wr a3 a4 →
    (∀ lo' ra' he' hc' wr' a3' a4', sq_E A b (sq_run s (sq_tree o v k m)) lo' ra' he' hc' wr' a3' a4' → post (dl, pl, fi, co, lo', ra', he', hc', nI b, wr', cd, rd, ml, md, a1, a2, a3', a4')) →
    wX_writeTree_8 post (nI o) (nI v) fu (nI m) (nI k - 1) dl pl fi co lo ra he hc (nI b) wr cd rd ml md a1 a2 a3 a4 := by
  intro k
  induction k with
  | zero =>
    intro fu m s lo ra he hc wr a3 a4 hf h8 hj hm hE H
    obtain ⟨n, rfl⟩ : ∃ n, fu = n + 1 := ⟨fu - 1, by omega⟩
    exact br_t (by decide) (H _ _ _ _ _ _ _ hE)
  | succ k ih =>
    intro fu m s lo ra he hc wr a3 a4 hf h8 hj hm hE H
    obtain ⟨n, rfl⟩ : ∃ n, fu = n + 1 := ⟨fu - 1, by omega⟩
    have hq : v / 2 ^ k % 2 < 2 := Nat.mod_lt _ (by decide)
    obtain ⟨g1, g2⟩ := sq_node hm hq
    have hst : (sq_step s (o + m, v / 2 ^ k % 2)).2.2.2 ≤ s.2.2.2 + 1 := sq_nm_j
    rw [nI_pred k]
    refine br_f (nI_pos (by omega)) (nm_r (sq_bitk hv (by omega)) ?_)
    rw [nI_add]
    exact sq_writeBit (o + m) (v / 2 ^ k % 2) hb (by omega) (by omega) hq hE (fun lo' ra' he' hc' wr' a3' a4' hE' => nm_r (sq_2mb m _) (nm_r (sq_pm1 (nI k)) (ih n _ _ lo' ra' he' hc' wr' a3' a4' (by omega) (by omega) (by omega) g2 hE' H)))
theorem sq_writeTree {post : St2 → Prop} {A : Nat → Int32} {s : sq_S} {b : Nat} {x : Int32} (o v n : Nat) (hx : x = nI v) (hb : b + 352 ≤ 1408) (hM : o + 2 ^ n ≤ 394) (hn : n ≤ 8) (hv : v < 2 ^ 31) (hj : s.2.2.2 + n ≤ 351) (hE : sq_E A b s lo ra he hc wr a3 a4)
    (H : ∀ lo' ra' he' hc' wr' a3' a4', sq_E A b (sq_run s (sq_tree o v n 1)) lo' ra' he' hc' wr' a3' a4' → post (dl, pl, fi, co, lo', ra', he', hc', nI b, wr', cd, rd, ml, md, a1, a2, a3', a4')) :
    wpX_writeTree post (dl, pl, fi, co, lo, ra, he, hc, nI b, wr, cd, rd, ml, md, a1, a2, a3, a4) (nI o) (nI n) x := by
  subst hx
  exact nm_e ⟨n + 1, sq_wt8 (M := 2 ^ n) hb hM hv n (n + 1) 1 s lo ra he hc wr a3 a4 (by omega) hn hj (Nat.le_refl _) hE H⟩
end
end
section
section
variable {dl pl fi co : Int32} {lo ra : Int64} {he hc ba wr : Int32} {cd : Int64} {rd ml md : Int32} {a1 a2 a3 a4 : Nat → Int32}
/-- the draft -/
def sq_D (D : Nat → Nat) (n : Nat) (a1 : Nat → Int32) : Prop := ∀ k, k < n → a1 k = nI (D k) ∧ D k < 256
theorem sq_mt2 {post : Int32 → Prop} {D : Nat → Nat} {n g d : Nat} (hn : n ≤ 48) (hD : sq_D D n a1) (h1 : 1 ≤ d) (h2 : d ≤ g)
    (H : ∀ q, q ≤ 9 → g + q ≤ n → (∀ i, i < q → D (g + i) = D (g + i - d)) → (q < 9 → g + q < n → ¬ D (g + q) = D (g + q - d)) → post (nI q)) :
    ∀ (m fu k : Nat), k + m = 9 → m < fu → g + k ≤ n → (∀ i, i < k → D (g + i) = D (g + i - d)) → wX_matchAt_2 post (nI g) (nI d) (nI n) pl fi co lo ra he hc ba wr cd rd ml md a1 a2 a3 a4 fu (nI k) := by
  intro m
  induction m with
  | zero =>
    intro fu k hk hf hg hi
    obtain ⟨n, rfl⟩ : ∃ n, fu = n + 1 := ⟨fu - 1, by omega⟩
    exact pk_le 9 k (fun _ => H k (by omega) hg hi (fun z => absurd z (by omega))) (fun z => absurd z (by omega))
  | succ m ih =>
    intro fu k hk hf hg hi
    obtain ⟨fu, rfl⟩ : ∃ n, fu = n + 1 := ⟨fu - 1, by omega⟩
    have x1 : nI g + nI k = nI (g + k) := nI_add g k
    have x2 : nI g + nI k - nI d = nI (g + k - d) := by rw [x1, pk_sub (by omega)]
    refine pk_le 9 k (fun z => absurd z (by omega)) (fun _ => pk_le n (g + k) (fun z => H k (by omega) hg hi (fun _ z2 => absurd z2 (by omega))) (fun z => ⟨pk_in (g + k) 48 (by omega) x1, pk_in (g + k - d) 48 (by omega) x2, ?_⟩) rfl x1)
    have y1 : a1 (nI g + nI k).toNatClampNeg = nI (D (g + k)) := by rw [pk_cl (g + k) x1]; exact (hD _ z).1
    have y2 : a1 (nI g + nI k - nI d).toNatClampNeg = nI (D (g + k - d)) := by rw [pk_cl (g + k - d) x2]; exact (hD _ (by omega)).1
    by_cases e : D (g + k) = D (g + k - d)
    · refine br_t (by rw [y1, y2, e]) (nm_r (nI_1 k) (ih fu (k + 1) (by omega) (by omega) (by omega) (fun i hk => ?_)))
      by_cases e2 : i = k
      · rw [e2]; exact e
      · exact hi i (by omega)
    · refine br_f (fun z2 => ?_) (H k (by omega) hg hi (fun _ _ => e))
      have w1 := (hD _ z).2
      have w2 := (hD (g + k - d) (by omega)).2
      exact e ((nI_eq (by omega) (by omega)).mp (y1.symm.trans (z2.trans y2)))
/-- the match found: how long, how far -/
def sq_M (D : Nat → Nat) (n g q e : Nat) : Prop := q = 0 ∨ (1 ≤ e ∧ e ≤ g ∧ q ≤ 9 ∧ g + q ≤ n ∧ ∀ i, i < q → D (g + i) = D (g + i - e))
def sq_N (D : Nat → Nat) (n g q d : Nat) : Prop := ∀ c, 1 ≤ c → c < d → g + 2 ≤ n → D g = D (g - c) → D (g + 1) = D (g + 1 - c) → 2 ≤ q
theorem sq_fm12 {post : St2 → Prop} {D : Nat → Nat} {n g : Nat} (hn : n ≤ 48) (hg : g < n) (hD : sq_D D n a1) (H : ∀ q e, q ≤ 9 → sq_M D n g q e → sq_N D n g q (g + 1) → post (nI n, pl, fi, co, lo, ra, he, hc, ba, wr, cd, rd, nI q, nI e, a1, a2, a3, a4)) :
    ∀ (m fu d q e : Nat), d + m = g + 1 → m < fu → 1 ≤ d → q ≤ 9 → sq_M D n g q e → sq_N D n g q d → wX_findMatch_12 post (nI g) (nI n) pl fi co lo ra he hc ba wr cd rd a1 a2 a3 a4 fu (nI d) (nI q) (nI e) := by
  intro m
  induction m with
  | zero =>
    intro fu d q e hk hf h1 hq hM hN
    obtain ⟨fu, rfl⟩ : ∃ n, fu = n + 1 := ⟨fu - 1, by omega⟩
    have e1 : d = g + 1 := by omega
    subst e1
    exact pk_lt g (g + 1) (fun _ => H q e hq hM hN) (fun z => absurd z (by omega))
  | succ m ih =>
    intro fu d q e hk hf h1 hq hM hN
    obtain ⟨fu, rfl⟩ : ∃ n, fu = n + 1 := ⟨fu - 1, by omega⟩
    refine pk_lt g d (fun z => absurd z (by omega)) (fun z => ⟨10, sq_mt2 hn hD h1 z (fun c hc9 hcn hce hcx => ?_) 9 10 0 (by omega) (by omega) (by omega) (fun i hi => absurd hi (by omega))⟩)
    have key : g + 2 ≤ n → D g = D (g - d) → D (g + 1) = D (g + 1 - d) → 2 ≤ c := by
      intro k1 k2 k3
      rcases Nat.lt_or_ge c 2 with w | w
      · have := hcx (by omega) (by omega)
        have hc : c = 0 ∨ c = 1 := by omega
        rcases hc with hc | hc
        · subst hc; exact absurd k2 this
        · subst hc; exact absurd k3 this
      · exact w
    refine pk_le c q (fun w => nm_r (nI_1 d) (ih fu (d + 1) q e (by omega) (by omega) (by omega) hq hM ?_)) (fun w => nm_r (nI_1 d) (ih fu (d + 1) c d (by omega) (by omega) (by omega) hc9 (Or.inr ⟨h1, z, hc9, hcn, hce⟩) ?_))
    · intro c' k1 k2 k3 k4 k5
      by_cases e2 : c' = d
      · subst e2
        have := key k3 k4 k5
        omega
      · exact hN c' k1 (by omega) k3 k4 k5
    · intro c' k1 k2 k3 k4 k5
      by_cases e2 : c' = d
      · subst e2
        exact key k3 k4 k5
      · have := hN c' k1 (by omega) k3 k4 k5
        omega
theorem sq_findMatch {post : St2 → Prop} {D : Nat → Nat} {n g : Nat} (hn : n ≤ 48) (hg : g < n) (hD : sq_D D n a1) (H : ∀ q e, q ≤ 9 → sq_M D n g q e → sq_N D n g q (g + 1) → post (nI n, pl, fi, co, lo, ra, he, hc, ba, wr, cd, rd, nI q, nI e, a1, a2, a3, a4)) :
    wpX_findMatch post (nI n, pl, fi, co, lo, ra, he, hc, ba, wr, cd, rd, ml, md, a1, a2, a3, a4) (nI g) :=
  ⟨g + 1, sq_fm12 hn hg hD H g (g + 1) 1 0 0 (by omega) (by omega) (by omega) (by omega) (Or.inl rfl) (fun c k1 k2 => absurd k2 (by omega))⟩
theorem sq_fl1 {post : St2 → Prop} {A : Nat → Int32} {b T j l h c w : Nat} (k fu : Nat) (hk : k < 5) (hb : b + 352 ≤ 1408) (hj : j + 1 ≤ 352) (hW : sq_W A b T 1 j l h c w a3)
    (H : ∀ h' c' w' a3', sq_W A b (T * 256) 1 (j + 1) (l % 16777216 * 256) h' c' w' a3' → (l < 4278190080 → c' = 1 ∧ h' = l / 16777216) → wX_squeeze_155 post fu (nI (k + 1)) dl pl fi co (lN (l % 16777216 * 256)) ra (nI h') (nI c') (nI b) (nI w') cd rd ml md a1 a2 a3' a4) :
    wX_squeeze_155 post (fu + 1) (nI k) dl pl fi co (lN l) ra (nI h) (nI c) (nI b) (nI w) cd rd ml md a1 a2 a3 a4 :=
  pk_le 5 k (fun z => absurd z (by omega)) (fun _ => sq_shiftLow hb (by omega) hj hW (fun h' c' w' a3' k1 k2 => nm_r (nI_1 k) (H h' c' w' a3' (sq_W_bit k1 (by omega) rfl (by omega)) k2)))
theorem sq_flush {post : St2 → Prop} {A : Nat → Int32} {s : sq_S} {b : Nat} (hb : b + 352 ≤ 1408) (hj : s.2.2.2 ≤ 300) (hE : sq_E A b s lo ra he hc wr a3 a4)
    (H : ∀ lo' he' hc' wr' a3', (∀ k, k < b ∨ b + 352 ≤ k → a3' k = A k) → sq_in (sq_by a3' b) s → post (dl, pl, fi, co, lo', ra, he', hc', nI b, wr', cd, rd, ml, md, a1, a2, a3', a4)) :
    ∃ fu, wX_squeeze_155 post fu 0 dl pl fi co lo ra he hc (nI b) wr cd rd ml md a1 a2 a3 a4 := by
  obtain ⟨⟨hp, hr, hr2⟩, h4, rfl, l, h, c, w, rfl, rfl, rfl, rfl, hW⟩ := hE
  have hW1 : sq_W A b s.2.1 1 s.2.2.2 l h c w a3 := sq_W_bit hW (by omega) rfl (by omega)
  refine ⟨6, sq_fl1 0 5 (by omega) hb (by omega) hW1 (fun h1 c1 w1 t1 k1 _ => sq_fl1 1 4 (by omega) hb (by omega) k1 (fun h2 c2 w2 t2 k2 _ => sq_fl1 2 3 (by omega) hb (by omega) k2 (fun h3 c3 w3 t3 k3 _ => sq_fl1 3 2 (by omega) hb (by omega) k3 (fun h4 c4 w4 t4 k4 _ => sq_fl1 4 1 (by omega) hb (by omega) k4 (fun h5 c5 w5 t5 k5 z5 => pk_le 5 5 (fun _ => H _ _ _ _ t5 k5.2.2.2.2.2.2.2 ?_) (fun z => absurd z (by omega)))))))⟩
  have hl4 : l % 16777216 * 256 % 16777216 * 256 % 16777216 * 256 % 16777216 * 256 = 0 := by omega
  rw [hl4] at z5 k5
  obtain ⟨y1, y2⟩ := z5 (by decide)
  subst y1 y2
  obtain ⟨q1, q2, q3, q4, q5, q6, q7, q8⟩ := k5
  rw [show (1 : Nat) - 1 = 0 from rfl, Nat.pow_zero, Nat.mul_one, show w5 = 5 + s.2.2.2 by omega] at q7
  have q9 : sq_val (sq_by t5 b) (5 + s.2.2.2) = s.2.1 := by omega
  exact ⟨by omega, by omega, by omega⟩
theorem sq_sq48 {post : St2 → Prop} {A : Nat → Int32} {D : Nat → Nat} {n b e0 : Nat} (hb : b + 352 ≤ 1408) (hn : n ≤ 48) (hD : sq_D D n a1) (he1 : 1 ≤ e0) (he2 : e0 ≤ 2) (hper : ∀ k, 2 ≤ k → k < n → D k = D (k - e0)) :
    ∀ (m fu be i st : Nat) (s : sq_S) (lo ra : Int64) (he hc wr ml md : Int32) (a3 a4 : Nat → Int32), n - i ≤ m → m < fu → be < 2 → i ≤ n → st ≤ i → 2 * st ≤ i + 3 → (i < n → 2 * st ≤ i + 2) → s.2.2.2 ≤ 6 + 10 * st → sq_E A b s lo ra he hc wr a3 a4 →
    (∀ lo' ra' he' hc' wr' ml' md' a3' a4', (∀ k, k < b ∨ b + 352 ≤ k → a3' k = A k) → (∃ f, f ≤ n - i ∧ sq_dec (sq_by a3' b) D n f be i s) → post (nI n, pl, fi, co, lo', ra', he', hc', nI b, wr', cd, rd, ml', md', a1, a2, a3', a4')) →
    wX_squeeze_48 post fu (nI be) (nI i) (nI st) (nI n) pl fi co lo ra he hc (nI b) wr cd rd ml md a1 a2 a3 a4 := by
  intro m
  induction m with
  | zero =>
    intro fu be i st s lo ra he hc wr ml md a3 a4 hm hf hbe hi h1 h2 h3 hj hE H
    obtain ⟨fu, rfl⟩ : ∃ n, fu = n + 1 := ⟨fu - 1, by omega⟩
    have fin : ∃ fu155, wX_squeeze_155 post fu155 0 (nI n) pl fi co lo ra he hc (nI b) wr cd rd ml md a1 a2 a3 a4 := sq_flush hb (by omega) hE (fun lo' he' hc' wr' a3' k1 k2 => H _ _ _ _ _ _ _ _ _ k1 ⟨0, by omega, by omega, k2⟩)
    exact pk_le 48 st (fun _ => fin) (fun _ => pk_le n i (fun _ => fin) (fun z => absurd z (by omega)))
  | succ m ih =>
    intro fu be i st s lo ra he hc wr ml md a3 a4 hm hf hbe hi h1 h2 h3 hj hE H
    obtain ⟨fu, rfl⟩ : ∃ n, fu = n + 1 := ⟨fu - 1, by omega⟩
    have fin : n ≤ i → ∃ fu155, wX_squeeze_155 post fu155 0 (nI n) pl fi co lo ra he hc (nI b) wr cd rd ml md a1 a2 a3 a4 := fun z => sq_flush hb (by omega) hE (fun lo' he' hc' wr' a3' k1 k2 => H _ _ _ _ _ _ _ _ _ k1 ⟨0, by omega, by omega, k2⟩)
    refine pk_le 48 st (fun z => fin (by omega)) (fun _ => pk_le n i (fun z => fin z) (fun z => ?_))
    have h3' := h3 z
    have hst1 : ∀ x, (sq_step s (be, x)).2.2.2 ≤ s.2.2.2 + 1 := fun x => sq_nm_j
    refine sq_findMatch hn z hD (fun q e hq9 hM hN => ?_)
    have hDi := hD i z
    refine pk_lt q 2 (fun w => ?_) (fun w => ?_)
    · refine sq_writeBit be 0 hb (by omega) (by omega) (by omega) hE (fun lo1 ra1 hd1 hc1 wr1 t1 u1 E1 => ⟨pk_in i 48 (by omega), ?_⟩)
      refine sq_writeTree 66 (D i) 8 (by rw [nI_clamp (by omega)]; exact hDi.1) hb (by decide) (by decide) (by omega) (by have := hst1 0; omega) E1 (fun lo2 ra2 hd2 hc2 wr2 t2 u2 E2 => nm_r (nI_1 i) (nm_r (nI_1 st) ?_))
      have hjl : (sq_run s (sq_lit (D i) be)).2.2.2 ≤ s.2.2.2 + (sq_lit (D i) be).length := sq_run_j
      rw [sq_lit_l] at hjl
      have hone : ¬ (2 ≤ i ∧ i + 2 ≤ n) := by
        intro ⟨y1, y2⟩
        have := hN e0 he1 (by omega) y2 (hper i y1 z) (hper (i + 1) (by omega) (by omega))
        omega
      refine ih fu 0 (i + 1) (st + 1) (sq_run s (sq_lit (D i) be)) lo2 ra2 hd2 hc2 wr2 _ _ t2 u2 (by omega) (by omega) (by omega) (by omega) (by omega) (by omega) (fun _ => by omega) (by omega) E2 (fun lo' ra' he' hc' wr' ml' md' a3' a4' k1 k2 => H _ _ _ _ _ _ _ _ _ k1 ?_)
      obtain ⟨f, f1, f2⟩ := k2
      exact ⟨f + 1, by omega, Or.inr (Or.inl ⟨z, f2⟩)⟩
    · have hM' : 1 ≤ e ∧ e ≤ i ∧ q ≤ 9 ∧ i + q ≤ n ∧ ∀ k, k < q → D (i + k) = D (i + k - e) := by
        rcases hM with y | y
        · omega
        · exact y
      obtain ⟨m1, m2, m3, m4, m5⟩ := hM'
      refine sq_writeBit be 1 hb (by omega) (by omega) (by omega) hE (fun lo1 ra1 hd1 hc1 wr1 t1 u1 E1 => ?_)
      have hjt : (sq_run (sq_step s (be, 1)) (sq_tree 322 (q - 2) 3 1)).2.2.2 ≤ (sq_step s (be, 1)).2.2.2 + (sq_tree 322 (q - 2) 3 1).length := sq_run_j
      rw [sq_tree_l] at hjt
      have hs1 := hst1 1
      refine sq_writeTree 322 (q - 2) 3 (pk_sub (b := 2) w) hb (by decide) (by decide) (by omega) (by omega) E1 (fun lo2 ra2 hd2 hc2 wr2 t2 u2 E2 => ?_)
      refine sq_writeTree 330 (e - 1) 6 (pk_sub (b := 1) m1) hb (by decide) (by decide) (by omega) (by omega) E2 (fun lo3 ra3 hd3 hc3 wr3 t3 u3 E3 => nm_r (nI_add i q) (nm_r (nI_1 st) ?_))
      have hjl : (sq_run s (sq_mat be q e)).2.2.2 ≤ s.2.2.2 + (sq_mat be q e).length := sq_run_j
      rw [sq_mat_l] at hjl
      have er : sq_run (sq_run (sq_step s (be, 1)) (sq_tree 322 (q - 2) 3 1)) (sq_tree 330 (e - 1) 6 1) = sq_run s (sq_mat be q e) := by
        unfold sq_mat
        rw [sq_run_c, sq_run_a]
      rw [er] at E3
      refine ih fu 1 (i + q) (st + 1) (sq_run s (sq_mat be q e)) lo3 ra3 hd3 hc3 wr3 _ _ t3 u3 (by omega) (by omega) (by omega) (by omega) (by omega) (by omega) (fun _ => by omega) (by omega) E3 (fun lo' ra' he' hc' wr' ml' md' a3' a4' k1 k2 => H _ _ _ _ _ _ _ _ _ k1 ?_)
      obtain ⟨f, f1, f2⟩ := k2
      exact ⟨f + 1, by omega, Or.inr (Or.inr ⟨q, e, w, m3, m1, m2, m4, m5, f2⟩)⟩
theorem sq_startChances {post : St2 → Prop} (H : ∀ a4', (∀ k, k < 394 → a4' k = nI 1024) → post (dl, pl, fi, co, lo, ra, he, hc, ba, wr, cd, rd, ml, md, a1, a2, a3, a4')) : wpX_startChances post (dl, pl, fi, co, lo, ra, he, hc, ba, wr, cd, rd, ml, md, a1, a2, a3, a4) :=
  pk_loop (fun n i s => wX_startChances_2 post dl pl fi co lo ra he hc ba wr cd rd ml md n (nI i) a1 a2 a3 s) (fun i s => ∀ k, k < i → s k = nI 1024) 394 0 a4 (by omega) (fun k hk => absurd hk (by omega))
    (fun n s h => pk_le 394 394 (fun _ => H s h) (fun z => absurd z (by omega)))
    (fun n i s hi h hw => pk_le 394 i (fun z => absurd z (by omega)) (fun _ => ⟨pk_in i 394 hi, nm_e (nm_r (nI_1 i) (hw _ (fun k hk => by
      rw [nI_clamp (by omega)]
      by_cases e : k = i
      · rw [e, pk_us]; rfl
      · rw [pk_un e]; exact h k (by omega))))⟩))
end
end
section
section
variable {dl pl fi co : Int32} {lo ra : Int64} {he hc ba wr : Int32} {cd : Int64} {rd ml md : Int32} {a1 a2 a3 a4 : Nat → Int32}
theorem sq_E0 {b : Nat} (h0 : ∀ k, k < 394 → a4 k = nI 1024) : sq_E a3 b sq_s0 0 4294967295 0 1 0 a3 a4 := by
  have e2 : ∀ x : Nat, x = 0 → 0 + 4294967296 = (x * 256 + 0 + 1) * 256 ^ (1 - 1) * 4294967296 + 0 := by
    intro x hx
    subst hx
    decide
  have w : sq_W a3 b 0 4294967295 0 0 0 1 0 a3 := ⟨by decide, by decide, rfl, by decide, by decide, fun z => absurd z (by decide), e2 _ rfl, fun _ _ => rfl⟩
  exact ⟨sq_s0_ok, h0, rfl, 0, 0, 1, 0, rfl, rfl, rfl, rfl, w⟩
theorem sq_squeeze {post : St2 → Prop} {D : Nat → Nat} {n b e0 : Nat} (hb : b + 352 ≤ 1408) (hn : n ≤ 48) (hD : sq_D D n a1) (he1 : 1 ≤ e0) (he2 : e0 ≤ 2) (hper : ∀ k, 2 ≤ k → k < n → D k = D (k - e0))
    (H : ∀ lo' ra' he' hc' wr' ml' md' a3' a4', (∀ k, k < b ∨ b + 352 ≤ k → a3' k = a3 k) → (∃ f, f ≤ n ∧ sq_dec (sq_by a3' b) D n f 0 0 (sq_run sq_s0 (sq_tree 2 n 6 1))) → post (nI n, pl, fi, co, lo', ra', he', hc', nI b, wr', cd, rd, ml', md', a1, a2, a3', a4')) :
    wpX_squeeze post (nI n, pl, fi, co, lo, ra, he, hc, nI b, wr, cd, rd, ml, md, a1, a2, a3, a4) := by
  unfold wpX_squeeze
  refine sq_startChances (fun u0 h0 => ?_)
  have E0 := sq_E0 (a3 := a3) (b := b) h0
  have hj0 : sq_s0.2.2.2 + 6 ≤ 351 := by decide
  refine sq_writeTree 2 n 6 rfl hb (by decide) (by decide) (by omega) hj0 E0 (fun lo1 ra1 hd1 hc1 wr1 t1 u1 E1 => ⟨n + 1, ?_⟩)
  have hjt : (sq_run sq_s0 (sq_tree 2 n 6 1)).2.2.2 ≤ sq_s0.2.2.2 + (sq_tree 2 n 6 1).length := sq_run_j
  rw [sq_tree_l, show sq_s0.2.2.2 = 0 from rfl] at hjt
  exact sq_sq48 (A := a3) hb hn hD he1 he2 hper n (n + 1) 0 0 0 _ lo1 ra1 hd1 hc1 wr1 _ _ t1 u1 (by omega) (by omega) (by omega) (by omega) (by omega) (by omega) (fun _ => by omega) (by omega) E1 H
end
end
section
section
variable {dl pl fi co : Int32} {lo ra : Int64} {he hc ba wr : Int32} {cd : Int64} {rd ml md : Int32} {a1 a2 a3 a4 : Nat → Int32}
/-- the reader stands at s over the bytes S -/
def sq_R (S : Nat → Nat) (s : sq_S) (ra cd : Int64) (rd : Int32) (a4 : Nat → Int32) : Prop :=
  sq_ok s ∧ (∀ k, k < 394 → a4 k = nI (s.1 k)) ∧ ra = lN s.2.2.1 ∧ cd = lN (sq_val S (5 + s.2.2.2) - s.2.1) ∧ rd = nI (5 + s.2.2.2)
/-- the bytes S lie at b -/
def sq_Y (S : Nat → Nat) (b : Nat) (a3 : Nat → Int32) : Prop := (∀ i, S i < 256) ∧ b + 352 ≤ 1408 ∧ ∀ i, i < 352 → sq_by a3 b i = S i
theorem sq_takeByte {post : Int32 → St2 → Prop} {S : Nat → Nat} {b k : Nat} (hY : sq_Y S b a3) (hk : k < 352) (H : post (nI (S k)) (dl, pl, fi, co, lo, ra, he, hc, nI b, wr, cd, nI (k + 1), ml, md, a1, a2, a3, a4)) : wpX_takeByte post (dl, pl, fi, co, lo, ra, he, hc, nI b, wr, cd, nI k, ml, md, a1, a2, a3, a4) := by
  obtain ⟨_, hb, hS⟩ := hY
  have e : a3 (nI b + nI k).toNatClampNeg &&& 255 = nI (S k) := by
    rw [pk_cl (b + k) (nI_add b k), sq_b8_and, ← hS k hk]
    rfl
  refine pk_le 352 k (fun z => absurd z (by omega)) (fun _ => ⟨pk_in (b + k) 1408 (by omega) (nI_add b k), nm_r (nI_1 k) ?_⟩)
  rw [e]
  exact H
theorem sq_rb65 {post : Int32 → St2 → Prop} {S p : Nat → Nat} {b T r j cx bit : Nat} (hY : sq_Y S b a3) (hcx : cx < 394) (hbit : bit < 2) (hp : sq_P p) (h4 : ∀ k, k < 394 → a4 k = nI (p k)) (hr : 253952 ≤ r) (hr2 : r < 4294967296) (hin : sq_in S (sq_nm (sq_lp p cx bit) T r j))
    (H : ∀ ra' cd' rd' a4', sq_R S (sq_nm (sq_lp p cx bit) T r j) ra' cd' rd' a4' → post (nI bit) (dl, pl, fi, co, lo, ra', he, hc, nI b, wr, cd', rd', ml, md, a1, a2, a3, a4')) :
    wX_readBit_65 post (nI cx) (nI bit) dl pl fi co lo (lN r) he hc (nI b) wr (lN (sq_val S (5 + j) - T)) (nI (5 + j)) ml md a1 a2 a3 a4 := by
  have hok := sq_nm_ok (T := T) (j := j) (sq_lp_P (c := cx) (b := bit) hp) hr hr2
  obtain ⟨g1, g2, g3, g4⟩ := sq_nm_in hY.1 hin
  have hSj := hY.1 (5 + j)
  unfold wX_readBit_65
  refine sq_learn hcx hbit hp h4 (fun a4' h4' => ?_)
  refine sq_lle 16777216 r (fun z => ?_) (fun z => nm_r (sq_shl8 r) (sq_takeByte hY (g4 z) (nm_r (e' := lN (sq_val S (5 + (j + 1)) - T * 256)) ?_ ?_)))
  · refine H _ _ _ _ ?_
    rw [sq_nm_ge (by omega)] at hok ⊢
    exact ⟨hok, h4', rfl, rfl, rfl⟩
  · rw [sq_shl8, nI_l (by omega), sq_or8 hSj (by omega), show 5 + (j + 1) = 5 + j + 1 from rfl, sq_val_s]
    congr 1
    omega
  · refine H _ _ _ _ ?_
    rw [sq_nm_lt z] at hok ⊢
    exact ⟨hok, h4', rfl, rfl, rfl⟩
theorem sq_readBit {post : Int32 → St2 → Prop} {S : Nat → Nat} {s : sq_S} {b : Nat} (cx bit : Nat) (hY : sq_Y S b a3) (hcx : cx < 394) (hbit : bit < 2) (hR : sq_R S s ra cd rd a4) (hin : sq_in S (sq_step s (cx, bit)))
    (H : ∀ ra' cd' rd' a4', sq_R S (sq_step s (cx, bit)) ra' cd' rd' a4' → post (nI bit) (dl, pl, fi, co, lo, ra', he, hc, nI b, wr, cd', rd', ml, md, a1, a2, a3, a4')) :
    wpX_readBit post (dl, pl, fi, co, lo, ra, he, hc, nI b, wr, cd, rd, ml, md, a1, a2, a3, a4) (nI cx) := by
  obtain ⟨⟨hp, hr, hr2⟩, h4, rfl, rfl, rfl⟩ := hR
  have hB := sq_bd_in cx hp hr
  have hp' := hp cx
  obtain ⟨g1, g2, g3, g4⟩ := sq_nm_in hY.1 hin
  have i0 := sq_in_step hY.1 ⟨hp, hr, hr2⟩ hin
  obtain ⟨i1, i2, i3⟩ := i0
  refine ⟨pk_in cx 394 hcx, nm_r (e' := lN (sq_bd s.1 s.2.2.1 cx)) ?_ ?_⟩
  · rw [nI_clamp (by omega), h4 cx hcx, sq_shr11 (by omega), nI_l (by omega), lN_mul]
    rfl
  · by_cases z : bit = 0
    · have e : sq_step s (cx, bit) = sq_nm (sq_lp s.1 cx bit) s.2.1 (sq_bd s.1 s.2.2.1 cx) s.2.2.2 := by
        unfold sq_step sq_T1 sq_r1
        rw [if_pos z, if_pos z]
      rw [e] at H hin
      obtain ⟨f1, f2, f3, f4⟩ := sq_nm_in hY.1 hin
      subst z
      exact sq_lle (sq_bd s.1 s.2.2.1 cx) (sq_val S (5 + s.2.2.2) - s.2.1) (fun y => absurd y (by omega)) (fun y => br_t rfl (sq_rb65 (bit := 0) hY hcx hbit hp h4 hB.1 (by omega) hin H))
    · have z1 : bit = 1 := by omega
      have e : sq_step s (cx, bit) = sq_nm (sq_lp s.1 cx bit) (s.2.1 + sq_bd s.1 s.2.2.1 cx) (s.2.2.1 - sq_bd s.1 s.2.2.1 cx) s.2.2.2 := by
        unfold sq_step sq_T1 sq_r1
        rw [if_neg z, if_neg z]
      rw [e] at H hin
      obtain ⟨f1, f2, f3, f4⟩ := sq_nm_in hY.1 hin
      subst z1
      refine sq_lle (sq_bd s.1 s.2.2.1 cx) (sq_val S (5 + s.2.2.2) - s.2.1) (fun y => br_f (by decide) (nm_r (e' := lN (sq_val S (5 + s.2.2.2) - (s.2.1 + sq_bd s.1 s.2.2.1 cx))) ?_ (nm_r (lN_sub (by omega)) (sq_rb65 (bit := 1) hY hcx hbit hp h4 (by omega) (by omega) hin H)))) (fun y => absurd y (by omega))
      rw [lN_sub (by omega), Nat.sub_sub]
theorem sq_rt5 {post : Int32 → St2 → Prop} {S : Nat → Nat} {b o v n M : Nat} (hY : sq_Y S b a3) (hM : o + M ≤ 394) (hn : n ≤ 8) :
    ∀ (k fu m : Nat) (s : sq_S) (ra cd : Int64) (rd : Int32) (a4 : Nat → Int32), k < fu → k ≤ n → (m + 1) * 2 ^ k ≤ 2 * M → sq_R S s ra cd rd a4 → sq_in S (sq_run s (sq_tree o v k m)) →
    (∀ ra' cd' rd' a4', sq_R S (sq_run s (sq_tree o v k m)) ra' cd' rd' a4' → post (nI (m * 2 ^ k + v % 2 ^ k) - ((1 : Int32) <<< (nI n &&& 31))) (dl, pl, fi, co, lo, ra', he, hc, nI b, wr, cd', rd', ml, md, a1, a2, a3, a4')) →
    wX_readTree_5 post (nI o) (nI n) fu (nI m) (nI (n - k)) dl pl fi co lo ra he hc (nI b) wr cd rd ml md a1 a2 a3 a4 := by
  intro k
  induction k with
  | zero =>
    intro fu m s ra cd rd a4 hf hk hm hR hin H
    obtain ⟨fu, rfl⟩ : ∃ n, fu = n + 1 := ⟨fu - 1, by omega⟩
    have h := H _ _ _ _ hR
    rw [Nat.pow_zero, Nat.mod_one, Nat.mul_one, Nat.add_zero] at h
    exact pk_le n (n - 0) (fun _ => h) (fun z => absurd z (by omega))
  | succ k ih =>
    intro fu m s ra cd rd a4 hf hk hm hR hin H
    obtain ⟨fu, rfl⟩ : ∃ n, fu = n + 1 := ⟨fu - 1, by omega⟩
    have hq : v / 2 ^ k % 2 < 2 := Nat.mod_lt _ (by decide)
    obtain ⟨g1, g2⟩ := sq_node hm hq
    have hin1 : sq_in S (sq_step s (o + m, v / 2 ^ k % 2)) := sq_run_in hY.1 (sq_step_ok _ hR.1) hin
    rw [sq_nodeV] at H
    refine pk_le n (n - (k + 1)) (fun z => absurd z (by omega)) (fun _ => ?_)
    rw [nI_add]
    refine sq_readBit (o + m) (v / 2 ^ k % 2) hY (by omega) hq hR hin1 (fun ra' cd' rd' a4' hR' => nm_r (sq_2mb m _) (nm_r (e' := nI (n - k)) ?_ (ih fu _ _ ra' cd' rd' a4' (by omega) (by omega) g2 hR' hin H)))
    rw [nI_1, show n - (k + 1) + 1 = n - k by omega]
theorem sq_readTree {post : Int32 → St2 → Prop} {S : Nat → Nat} {s : sq_S} {b : Nat} (o v n : Nat) (hY : sq_Y S b a3) (hM : o + 2 ^ n ≤ 394) (hn : n ≤ 8) (hv : v < 2 ^ n) (hR : sq_R S s ra cd rd a4) (hin : sq_in S (sq_run s (sq_tree o v n 1)))
    (H : ∀ ra' cd' rd' a4', sq_R S (sq_run s (sq_tree o v n 1)) ra' cd' rd' a4' → post (nI v) (dl, pl, fi, co, lo, ra', he, hc, nI b, wr, cd', rd', ml, md, a1, a2, a3, a4')) :
    wpX_readTree post (dl, pl, fi, co, lo, ra, he, hc, nI b, wr, cd, rd, ml, md, a1, a2, a3, a4) (nI o) (nI n) := by
  have hp : 2 ^ n ≤ 2 ^ 8 := Nat.pow_le_pow_right (by decide) hn
  have e : nI (1 * 2 ^ n + v % 2 ^ n) - ((1 : Int32) <<< (nI n &&& 31)) = nI v := by
    rw [show (1 : Int32) <<< (nI n &&& 31) = nI (1 * 2 ^ n) from pk_shlN (n := 1) (nI n &&& 31) n (sq_sl n (by omega)) (by omega), pk_sub (by omega), Nat.mod_eq_of_lt hv]
    congr 1
    omega
  have h := sq_rt5 (post := post) (M := 2 ^ n) hY hM hn n (n + 1) 1 s ra cd rd a4 (by omega) (Nat.le_refl _) (Nat.le_refl _) hR hin (by rw [e]; exact H)
  rw [Nat.sub_self] at h
  exact ⟨n + 1, h⟩
theorem sq_cb2 {post : St2 → Prop} {D : Nat → Nat} {i q d n : Nat} (hn : n ≤ 48) (h1 : 1 ≤ d) (h2 : d ≤ i) (h3 : i + q ≤ n) (hD : ∀ k, k < q → D (i + k) = D (i + k - d))
    (H : ∀ a2', (∀ k, k < i + q → a2' k = nI (D k)) → post (dl, nI (i + q), fi, co, lo, ra, he, hc, ba, wr, cd, rd, ml, md, a1, a2', a3, a4)) :
    ∀ (m fu k : Nat) (a2 : Nat → Int32), k + m = q → m < fu → (∀ j, j < i + k → a2 j = nI (D j)) → wX_copyBack_2 post (nI q) (nI d) dl fi co lo ra he hc ba wr cd rd ml md fu (nI k) (nI (i + k)) a1 a2 a3 a4 := by
  intro m
  induction m with
  | zero =>
    intro fu k a2 hk hf hI
    obtain ⟨fu, rfl⟩ : ∃ n, fu = n + 1 := ⟨fu - 1, by omega⟩
    have e : k = q := by omega
    subst e
    exact pk_le k k (fun _ => H a2 hI) (fun z => absurd z (by omega))
  | succ m ih =>
    intro fu k a2 hk hf hI
    obtain ⟨fu, rfl⟩ : ∃ n, fu = n + 1 := ⟨fu - 1, by omega⟩
    have x1 : nI (i + k) - nI d = nI (i + k - d) := pk_sub (by omega)
    refine pk_le q k (fun z => absurd z (by omega)) (fun _ => pk_le 48 (i + k) (fun z => absurd z (by omega)) (fun _ => pk_lt (i + k) d (fun z => absurd z (by omega)) (fun _ => ⟨pk_in (i + k - d) 48 (by omega) x1, pk_in (i + k) 48 (by omega), nm_e (nm_r (nI_1 (i + k)) (nm_r (nI_1 k) (ih fu (k + 1) _ (by omega) (by omega) (fun j hj => ?_))))⟩)))
    rw [nI_clamp (by omega), pk_cl (i + k - d) x1]
    by_cases e : j = i + k
    · rw [e, pk_us, hI _ (by omega), hD k (by omega)]
    · rw [pk_un e]
      exact hI j (by omega)
theorem sq_us74 {post : St2 → Prop} {S D : Nat → Nat} {n b : Nat} (hY : sq_Y S b a3) (hn : n ≤ 48) (hD8 : ∀ k, k < n → D k < 256)
    (H : ∀ ra' cd' rd' a2' a4', (∀ k, k < n → a2' k = nI (D k)) → post (dl, nI n, fi, co, lo, ra', he, hc, nI b, wr, cd', rd', ml, md, a1, a2', a3, a4')) :
    ∀ (f fu be i st : Nat) (s : sq_S) (ra cd : Int64) (rd : Int32) (a2 a4 : Nat → Int32), f < fu → st + f ≤ 48 → be < 2 → i ≤ n → (∀ k, k < i → a2 k = nI (D k)) → sq_R S s ra cd rd a4 → sq_dec S D n f be i s →
    wX_unsqueeze_74 post (nI n) fu (nI be) (nI st) dl (nI i) fi co lo ra he hc (nI b) wr cd rd ml md a1 a2 a3 a4 := by
  intro f
  induction f with
  | zero =>
    intro fu be i st s ra cd rd a2 a4 hf hst hbe hi hI hR hd
    obtain ⟨fu, rfl⟩ : ∃ n, fu = n + 1 := ⟨fu - 1, by omega⟩
    have e : i = n := hd.1
    subst e
    exact pk_le 48 st (fun _ => H _ _ _ _ _ hI) (fun _ => pk_le i i (fun _ => H _ _ _ _ _ hI) (fun z => absurd z (by omega)))
  | succ f ih =>
    intro fu be i st s ra cd rd a2 a4 hf hst hbe hi hI hR hd
    obtain ⟨fu, rfl⟩ : ∃ n, fu = n + 1 := ⟨fu - 1, by omega⟩
    rcases hd with ⟨e, _⟩ | ⟨z, hd⟩ | ⟨q, d, q1, q2, d1, d2, qn, hm, hd⟩
    · subst e
      exact pk_le 48 st (fun _ => H _ _ _ _ _ hI) (fun _ => pk_le i i (fun _ => H _ _ _ _ _ hI) (fun z => absurd z (by omega)))
    · have hok := sq_step_ok (be, 0) hR.1
      have er : sq_run s (sq_lit (D i) be) = sq_run (sq_step s (be, 0)) (sq_tree 66 (D i) 8 1) := by
        unfold sq_lit
        rw [sq_run_c]
      rw [er] at hd
      have hin : sq_in S (sq_run (sq_step s (be, 0)) (sq_tree 66 (D i) 8 1)) := sq_dec_in hY.1 (sq_run_ok hok) hd
      have h8 := hD8 i z
      refine pk_le 48 st (fun z => absurd z (by omega)) (fun _ => pk_le n i (fun z => absurd z (by omega)) (fun _ => ?_))
      refine sq_readBit be 0 hY (by omega) (by omega) hR (sq_run_in hY.1 hok hin) (fun ra1 cd1 rd1 u1 R1 => pk_eq 0 1 (fun z => absurd z (by omega)) (fun _ => ?_))
      refine sq_readTree 66 (D i) 8 hY (by decide) (by decide) h8 R1 hin (fun ra2 cd2 rd2 u2 R2 => ⟨pk_in i 48 (by omega), nm_e (nm_r (nI_1 i) (nm_r (nI_1 st) (ih fu 0 (i + 1) (st + 1) _ ra2 cd2 rd2 _ u2 (by omega) (by omega) (by omega) (by omega) (fun k hk => ?_) R2 hd)))⟩)
      rw [nI_clamp (by omega)]
      by_cases e : k = i
      · rw [e, pk_us]
      · rw [pk_un e]
        exact hI k (by omega)
    · have hok := sq_step_ok (be, 1) hR.1
      have er : sq_run s (sq_mat be q d) = sq_run (sq_run (sq_step s (be, 1)) (sq_tree 322 (q - 2) 3 1)) (sq_tree 330 (d - 1) 6 1) := by
        unfold sq_mat
        rw [sq_run_c, sq_run_a]
      rw [er] at hd
      have hin3 := sq_dec_in hY.1 (sq_run_ok (sq_run_ok hok)) hd
      have hin2 := sq_run_in hY.1 (sq_run_ok hok) hin3
      have hin1 := sq_run_in hY.1 hok hin2
      refine pk_le 48 st (fun z => absurd z (by omega)) (fun _ => pk_le n i (fun z => absurd z (by omega)) (fun _ => ?_))
      refine sq_readBit be 1 hY (by omega) (by omega) hR hin1 (fun ra1 cd1 rd1 u1 R1 => pk_eq 1 1 (fun _ => ?_) (fun z => absurd rfl z))
      refine sq_readTree 322 (q - 2) 3 hY (by decide) (by decide) (by omega) R1 hin2 (fun ra2 cd2 rd2 u2 R2 => nm_r (e' := nI q) ?_ ?_)
      · rw [show nI (q - 2) + 2 = nI (q - 2 + 2) from nI_add (q - 2) 2, show q - 2 + 2 = q by omega]
      · refine sq_readTree 330 (d - 1) 6 hY (by decide) (by decide) (by omega) R2 hin3 (fun ra3 cd3 rd3 u3 R3 => nm_r (e' := nI d) ?_ ?_)
        · rw [nI_1, show d - 1 + 1 = d by omega]
        · exact ⟨q + 1, sq_cb2 hn d1 d2 qn hm (fun a2' hI' => nm_r (nI_1 st) (ih fu 1 (i + q) (st + 1) _ ra3 cd3 rd3 a2' u3 (by omega) (by omega) (by omega) (by omega) hI' R3 hd)) q (q + 1) 0 a2 (by omega) (by omega) hI⟩
theorem sq_us23 {post : St2 → Prop} {S D : Nat → Nat} {n b f : Nat} (hY : sq_Y S b a3) (hn : n ≤ 48) (hD8 : ∀ k, k < n → D k < 256) (hf : f ≤ n) (h4 : ∀ k, k < 394 → a4 k = nI 1024) (hd : sq_dec S D n f 0 0 (sq_run sq_s0 (sq_tree 2 n 6 1)))
    (H : ∀ ra' cd' rd' a2' a4', (∀ k, k < n → a2' k = nI (D k)) → post (dl, nI n, fi, co, lo, ra', he, hc, nI b, wr, cd', rd', ml, md, a1, a2', a3, a4')) :
    ∃ fu, wX_unsqueeze_23 post fu 0 dl pl fi co lo 4294967295 he hc (nI b) wr 0 0 ml md a1 a2 a3 a4 := by
  have hin1 : sq_in S (sq_run sq_s0 (sq_tree 2 n 6 1)) := sq_dec_in hY.1 (sq_run_ok sq_s0_ok) hd
  have hin0 : sq_in S sq_s0 := sq_run_in hY.1 sq_s0_ok hin1
  refine pk_loop (fun n i s => wX_unsqueeze_23 post n (nI i) dl pl fi co lo 4294967295 he hc (nI b) wr s (nI i) ml md a1 a2 a3 a4) (fun i s => s = lN (sq_val S i % 4294967296)) 5 0 0 (by omega) rfl (fun n' s h => ?_) (fun n' i s hi h hw => ?_)
  · subst h
    refine pk_le 5 5 (fun _ => ?_) (fun z => absurd z (by omega))
    have hlt : sq_val S 5 < 0 + 4294967295 := hin0.2.2
    have R0 : sq_R S sq_s0 4294967295 (lN (sq_val S 5 % 4294967296)) (nI 5) a4 := by
      refine ⟨sq_s0_ok, h4, rfl, ?_, rfl⟩
      show lN (sq_val S 5 % 4294967296) = lN (sq_val S 5 - 0)
      rw [Nat.mod_eq_of_lt (by omega), Nat.sub_zero]
    exact sq_readTree 2 n 6 hY (by decide) (by decide) (by omega) R0 hin1 (fun ra1 cd1 rd1 u1 R1 => ⟨f + 1, sq_us74 hY hn hD8 H f (f + 1) 0 0 0 _ ra1 cd1 rd1 a2 u1 (by omega) (by omega) (by omega) (by omega) (fun k hk => absurd hk (by omega)) R1 hd⟩)
  · subst h
    refine pk_le 5 i (fun z => absurd z (by omega)) (fun _ => sq_takeByte hY (by omega) (nm_r (e' := lN (sq_val S (i + 1) % 4294967296)) ?_ (nm_r (nI_1 i) (hw _ rfl))))
    have hS := hY.1 i
    rw [sq_shl8, nI_l (by omega), sq_or8 hS (by omega), sq_m32 (by omega), sq_val_s]
    congr 1
    omega
theorem sq_unsqueeze {post : St2 → Prop} {S D : Nat → Nat} {n b f : Nat} (hY : sq_Y S b a3) (hn : n ≤ 48) (hD8 : ∀ k, k < n → D k < 256) (hf : f ≤ n) (hd : sq_dec S D n f 0 0 (sq_run sq_s0 (sq_tree 2 n 6 1)))
    (H : ∀ ra' cd' rd' a2' a4', (∀ k, k < n → a2' k = nI (D k)) → post (dl, nI n, fi, co, lo, ra', he, hc, nI b, wr, cd', rd', ml, md, a1, a2', a3, a4')) :
    wpX_unsqueeze post (dl, pl, fi, co, lo, ra, he, hc, nI b, wr, cd, rd, ml, md, a1, a2, a3, a4) := by
  unfold wpX_unsqueeze
  exact sq_startChances (fun u0 h0 => sq_us23 hY hn hD8 hf h0 hd H)
end
end
section
section
variable {dl pl fi co : Int32} {lo ra : Int64} {he hc ba wr : Int32} {cd : Int64} {rd ml md : Int32} {a1 a2 a3 a4 : Nat → Int32}
theorem sq_put {post : Int32 → St2 → Prop} {k : Nat} {x : Int32} (hk : k < 48) (H : post (nI (k + 1)) (nI (k + 1), pl, fi, co, lo, ra, he, hc, ba, wr, cd, rd, ml, md, upd a1 k (nI (sq_b8 x)), a2, a3, a4)) : wpX_put post (nI k, pl, fi, co, lo, ra, he, hc, ba, wr, cd, rd, ml, md, a1, a2, a3, a4) x :=
  pk_lt k 48 (fun _ => ⟨pk_in k 48 hk, nm_r (by rw [nI_clamp (by omega), sq_b8_and]) (nm_r (nI_1 k) H)⟩) (fun z => absurd z (by omega))
theorem sq_repeat_ok {post : Int32 → St2 → Prop} {d c : Nat} (h1 : 1 ≤ d) (h2 : d ≤ 2) (h3 : 1 ≤ c) (h4 : c ≤ 46)
    (H : ∀ a1', (∀ k, k < 2 → a1' k = a1 k) → (∀ k, 2 ≤ k → k < 2 + c → a1' k = a1' (k - d)) → post (nI (2 + c)) (nI (2 + c), pl, fi, co, lo, ra, he, hc, ba, wr, cd, rd, ml, md, a1', a2, a3, a4)) : wpX_repeat post (nI 2, pl, fi, co, lo, ra, he, hc, ba, wr, cd, rd, ml, md, a1, a2, a3, a4) (nI d) (nI c) := by
  refine pk_lt d 1 (fun z => absurd z (by omega)) (fun _ => pk_lt 2 d (fun z => absurd z (by omega)) (fun _ => pk_lt c 1 (fun z => absurd z (by omega)) (fun _ => pk_le c 46 (fun _ => ?_) (fun z => absurd z (by omega)))))
  refine pk_loop (fun n i s => wX_repeat_33 post (nI d) (nI c) pl fi co lo ra he hc ba wr cd rd ml md n (nI i) (nI (2 + i)) s a2 a3 a4) (fun i s => (∀ k, k < 2 → s k = a1 k) ∧ ∀ k, 2 ≤ k → k < 2 + i → s k = s (k - d)) c 0 a1 (by omega) ⟨fun _ _ => rfl, fun k k1 k2 => absurd k2 (by omega)⟩
    (fun n s h => pk_le c c (fun _ => H s h.1 h.2) (fun z => absurd z (by omega))) (fun n i s hi h hw => ?_)
  have x1 : nI (2 + i) - nI d = nI (2 + i - d) := pk_sub (by omega)
  refine pk_le c i (fun z => absurd z (by omega)) (fun _ => ⟨pk_in (2 + i - d) 48 (by omega) x1, pk_in (2 + i) 48 (by omega), nm_r (e' := upd s (2 + i) (s (2 + i - d))) (by rw [nI_clamp (by omega), pk_cl (2 + i - d) x1]) (nm_r (nI_1 (2 + i)) (nm_r (nI_1 i) (hw _ ⟨fun k hk => ?_, fun k k1 k2 => ?_⟩)))⟩)
  · rw [pk_un (by omega)]
    exact h.1 k hk
  · by_cases e : k = 2 + i
    · rw [e, pk_us, pk_un (by omega)]
    · rw [pk_un e, pk_un (by omega)]
      exact h.2 k k1 (by omega)
theorem sq_repeat_no {post : Int32 → St2 → Prop} {x y : Int32} (h : x < 1 ∨ 2 < x ∨ y < 1 ∨ 46 < y) (H : post (-1) (nI 2, pl, fi, co, lo, ra, he, hc, ba, wr, cd, rd, ml, md, a1, a2, a3, a4)) : wpX_repeat post (nI 2, pl, fi, co, lo, ra, he, hc, ba, wr, cd, rd, ml, md, a1, a2, a3, a4) x y := by
  refine br_c (fun _ => H) (fun h1 => br_c (fun _ => H) (fun h2 => br_c (fun _ => H) (fun h3 => br_f (fun z => ?_) H)))
  have z' : y ≤ 46 := z
  rcases h with h | h | h | h
  · exact h1 h
  · exact h2 h
  · exact h3 h
  · exact absurd h (Int32.not_lt.mpr z')
theorem sq_at {post : Int32 → Prop} {n k : Nat} (hk : k < n) (hn : n ≤ 48) (H : post (a2 k)) : wpX_at post (dl, nI n, fi, co, lo, ra, he, hc, ba, wr, cd, rd, ml, md, a1, a2, a3, a4) (nI k) :=
  br_f (nI_pos (by omega)) (pk_lt k n (fun _ => ⟨pk_in k 48 (by omega), by rw [nI_clamp (by omega)]; exact H⟩) (fun z => absurd z (by omega)))
theorem sq_fd10 {post : Int32 → Prop} {D : Nat → Nat} {n i0 : Nat} {x : Int32} (hn : n ≤ 48) (h2 : ∀ k, k < n → a2 k = nI (D k)) (h8 : ∀ k, k < n → D k < 256)
    (H1 : ∀ t, i0 ≤ t → t < n → D t = sq_b8 x → (∀ u, i0 ≤ u → u < t → ¬ D u = sq_b8 x) → post (nI t)) (H2 : (∀ u, i0 ≤ u → u < n → ¬ D u = sq_b8 x) → post (-1)) :
    ∀ (m fu k : Nat), n ≤ k + m → m < fu → i0 ≤ k → k < 2 ^ 31 → (∀ u, i0 ≤ u → u < k → ¬ D u = sq_b8 x) → wX_find_10 post x dl (nI n) fi co lo ra he hc ba wr cd rd ml md a1 a2 a3 a4 fu (nI k) := by
  intro m
  induction m with
  | zero =>
    intro fu k hk hf h0 hb hi
    obtain ⟨fu, rfl⟩ : ∃ n, fu = n + 1 := ⟨fu - 1, by omega⟩
    exact pk_le n k (fun _ => H2 (fun u u1 u2 => hi u u1 (by omega))) (fun z => absurd z (by omega))
  | succ m ih =>
    intro fu k hk hf h0 hb hi
    obtain ⟨fu, rfl⟩ : ∃ n, fu = n + 1 := ⟨fu - 1, by omega⟩
    refine pk_le n k (fun _ => H2 (fun u u1 u2 => hi u u1 (by omega))) (fun z => ⟨pk_in k 48 (by omega), ?_⟩)
    have y1 : a2 (nI k).toNatClampNeg = nI (D k) := by rw [nI_clamp (by omega)]; exact h2 k z
    have y2 : x &&& 255 = nI (sq_b8 x) := sq_b8_and x
    have w1 := h8 k z
    have w2 := sq_b8_lt x
    by_cases e : D k = sq_b8 x
    · exact br_t (by rw [y1, y2, e]) (H1 k h0 z e hi)
    · refine br_f (fun y => e ((nI_eq (by omega) (by omega)).mp (y1.symm.trans (y.trans y2)))) (nm_r (nI_1 k) (ih fu (k + 1) (by omega) (by omega) (by omega) (by omega) (fun u u1 u2 => ?_)))
      by_cases e2 : u = k
      · rw [e2]; exact e
      · exact hi u u1 (by omega)
theorem sq_find {post : Int32 → Prop} {D : Nat → Nat} {n j : Nat} {x y : Int32} (hn : n ≤ 48) (h2 : ∀ k, k < n → a2 k = nI (D k)) (h8 : ∀ k, k < n → D k < 256) (hj : j < 2 ^ 31) (hy : (0 ≤ y ∧ y = nI j) ∨ (¬ 0 ≤ y ∧ j = 0))
    (H1 : ∀ t, j ≤ t → t < n → D t = sq_b8 x → (∀ u, j ≤ u → u < t → ¬ D u = sq_b8 x) → post (nI t)) (H2 : (∀ u, j ≤ u → u < n → ¬ D u = sq_b8 x) → post (-1)) :
    wpX_find post (dl, nI n, fi, co, lo, ra, he, hc, ba, wr, cd, rd, ml, md, a1, a2, a3, a4) x y := by
  have h := sq_fd10 (dl := dl) (fi := fi) (co := co) (lo := lo) (ra := ra) (he := he) (hc := hc) (ba := ba) (wr := wr) (cd := cd) (rd := rd) (ml := ml) (md := md) (a1 := a1) (a3 := a3) (a4 := a4) hn h2 h8 H1 H2 48 49 j (by omega) (by omega) (by omega) hj (fun u u1 u2 => absurd u2 (by omega))
  rcases hy with ⟨y1, y2⟩ | ⟨y1, y2⟩
  · subst y2
    exact br_t y1 ⟨49, h⟩
  · subst y2
    exact br_f y1 ⟨49, h⟩
theorem sq_send {post : Int32 → St2 → Prop} {D : Nat → Nat} {n e0 c : Nat} (hc2 : c < 2) (hn : n ≤ 48) (hD : sq_D D n a1) (he1 : 1 ≤ e0) (he2 : e0 ≤ 2) (hper : ∀ k, 2 ≤ k → k < n → D k = D (k - e0))
    (H : ∀ lo' ra' he' hc' wr' ml' md' a3' a4', (∀ k, k < 352 * c ∨ 352 * c + 352 ≤ k → a3' k = a3 k) → (∃ f, f ≤ n ∧ sq_dec (sq_by a3' (352 * c)) D n f 0 0 (sq_run sq_s0 (sq_tree 2 n 6 1))) → post (nI (c + 1)) (nI n, pl, 0, nI (c + 1), lo', ra', he', hc', nI (352 * c), wr', cd, rd, ml', md', a1, a2, a3', a4')) :
    wpX_send post (nI n, pl, 0, nI c, lo, ra, he, hc, ba, wr, cd, rd, ml, md, a1, a2, a3, a4) := by
  have e : (352 : Int32) * ((0 + nI c) &&& 3) = nI (352 * c) := by
    have h : c = 0 ∨ c = 1 := by omega
    rcases h with h | h
    · subst h; decide
    · subst h; decide
  exact pk_lt c 4 (fun _ => nm_r e (sq_squeeze (by omega) hn hD he1 he2 hper (fun lo' ra' he' hc' wr' ml' md' a3' a4' k1 k2 => nm_r (nI_1 c) (H lo' ra' he' hc' wr' ml' md' a3' a4' k1 k2)))) (fun z => absurd z (by omega))
theorem sq_erase {post : St2 → Prop} (H : post (nI 0, pl, fi, co, lo, ra, he, hc, ba, wr, cd, rd, ml, md, a1, a2, a3, a4)) : wpX_erase post (dl, pl, fi, co, lo, ra, he, hc, ba, wr, cd, rd, ml, md, a1, a2, a3, a4) := H
theorem sq_receive {post : Int32 → St2 → Prop} {S D : Nat → Nat} {n f : Nat} (hY : sq_Y S 0 a3) (hn : n ≤ 48) (hD8 : ∀ k, k < n → D k < 256) (hf : f ≤ n) (hd : sq_dec S D n f 0 0 (sq_run sq_s0 (sq_tree 2 n 6 1)))
    (H : ∀ ra' cd' rd' a2' a4', (∀ k, k < n → a2' k = nI (D k)) → post (nI n) (dl, nI n, 1, 1, lo, ra', he, hc, nI 0, wr, cd', rd', ml, md, a1, a2', a3, a4')) :
    wpX_receive post (dl, pl, 0, nI 2, lo, ra, he, hc, ba, wr, cd, rd, ml, md, a1, a2, a3, a4) :=
  pk_eq 2 0 (fun z => absurd z (by omega)) (fun _ => nm_r (e' := nI 0) (by decide) (sq_unsqueeze hY hn hD8 hf hd (fun ra' cd' rd' a2' a4' h => nm_r (e' := 1) (by decide) (nm_r (e' := 1) (by decide) (H ra' cd' rd' a2' a4' h)))))
end
end
section
section
variable {dl pl fi co : Int32} {lo ra : Int64} {he hc ba wr : Int32} {cd : Int64} {rd ml md : Int32} {a1 a2 a3 a4 : Nat → Int32}
variable {post : Int32 → St0 → Prop} {mc ms kc ks : Nat} {x0 x1 x2 x3 x4 : Int32}
/-- the draft of the law -/
def sq_DD (d A B : Nat) : Nat → Nat := fun k => if d = 2 then (if k % 2 = 0 then A else B) else (if k = 0 then A else B)
theorem sq_DD_lt {d A B : Nat} (hA : A < 256) (hB : B < 256) (k : Nat) : sq_DD d A B k < 256 := by
  unfold sq_DD
  split <;> split <;> assumption
theorem sq_DD_1 (d A B : Nat) : sq_DD d A B 1 = B := by
  unfold sq_DD
  split
  · rfl
  · rfl
theorem sq_DD_0 (d A B : Nat) : sq_DD d A B 0 = A := by
  unfold sq_DD
  split
  · rfl
  · rfl
theorem sq_DD_o {A B k : Nat} (h : k % 2 = 1) : sq_DD 2 A B k = B := by
  unfold sq_DD
  rw [if_pos rfl, if_neg (by omega)]
theorem sq_DD_e {A B k : Nat} (h : k % 2 = 0) : sq_DD 2 A B k = A := by
  unfold sq_DD
  rw [if_pos rfl, if_pos h]
theorem sq_DD_r {A B k : Nat} (h : 1 ≤ k) : sq_DD 1 A B k = B := by
  unfold sq_DD
  rw [if_neg (by decide), if_neg (by omega)]
theorem sq_DD_s (d A k : Nat) : sq_DD d A A k = A := by
  unfold sq_DD
  split <;> split <;> rfl
theorem sq_DD_p {d A B : Nat} (h1 : 1 ≤ d) (h2 : d ≤ 2) (k : Nat) (hk : 2 ≤ k) : sq_DD d A B k = sq_DD d A B (k - d) := by
  have h : d = 1 ∨ d = 2 := by omega
  rcases h with h | h
  · subst h
    rw [sq_DD_r (by omega), sq_DD_r (by omega)]
  · subst h
    rcases Nat.mod_two_eq_zero_or_one k with e | e
    · rw [sq_DD_e e, sq_DD_e (by omega)]
    · rw [sq_DD_o e, sq_DD_o (by omega)]
theorem sq_DD_a {d A B n : Nat} {a : Nat → Int32} (h1 : 1 ≤ d) (h2 : d ≤ 2) (e0 : a 0 = nI A) (e1 : a 1 = nI B) (hp : ∀ k, 2 ≤ k → k < n → a k = a (k - d)) : ∀ m k, k < m → k < n → a k = nI (sq_DD d A B k) := by
  intro m
  induction m with
  | zero => exact fun k hk => absurd hk (by omega)
  | succ m ih =>
    intro k hk hn
    rcases Nat.lt_or_ge k 2 with z | z
    · have h : k = 0 ∨ k = 1 := by omega
      rcases h with h | h
      · subst h; rw [e0, sq_DD_0]
      · subst h; rw [e1, sq_DD_1]
    · rw [hp k z hn, sq_DD_p h1 h2 k z]
      exact ih (k - d) (by omega) (by omega)
/-- what the end of the law knows -/
def sq_K (x0 x1 x2 : Int32) (o n d : Nat) (a2 : Nat → Int32) : Prop :=
  2 ≤ n ∧ n ≤ 48 ∧ ((o = 0 ∧ n = 2 ∧ d = 1) ∨ (o = 1 ∧ x2 = nI d ∧ (d = 1 ∨ d = 2))) ∧ ∀ k, k < n → a2 k = nI (sq_DD d (sq_b8 x0) (sq_b8 x1) k)
theorem sq_295 {o n d j : Nat} {z : Int32} (hp : post 1 ()) (hK : sq_K x0 x1 x2 o n d a2) (hj : j < 2 ^ 31) (hy : (0 ≤ x4 ∧ x4 = nI j) ∨ (¬ 0 ≤ x4 ∧ j = 0))
    (h : (∃ t, z = nI t ∧ j ≤ t ∧ t < n ∧ sq_DD d (sq_b8 x0) (sq_b8 x1) t = sq_b8 x0 ∧ ∀ u, j ≤ u → u < t → ¬ sq_DD d (sq_b8 x0) (sq_b8 x1) u = sq_b8 x0) ∨ (z = -1 ∧ ∀ u, j ≤ u → u < n → ¬ sq_DD d (sq_b8 x0) (sq_b8 x1) u = sq_b8 x0)) :
    wL_lawOf_295 post mc ms x0 x4 z kc ks dl (nI n) fi co lo ra he hc ba wr cd rd ml md a1 a2 a3 a4 := by
  obtain ⟨k1, k2, k3, k4⟩ := hK
  unfold wL_lawOf_295
  refine sq_find k2 k4 (fun k _ => sq_DD_lt (sq_b8_lt _) (sq_b8_lt _) k) hj hy (fun t t1 t2 t3 t4 => ?_) (fun t1 => ?_)
  · rcases h with ⟨t', h1, h2, h3, h4, h5⟩ | ⟨h1, h2⟩
    · have e : t = t' := by
        rcases Nat.lt_trichotomy t t' with w | w | w
        · exact absurd t3 (h5 t t1 w)
        · exact w
        · exact absurd h4 (t4 t' h2 w)
      subst e
      exact br_t h1.symm hp
    · exact absurd t3 (h2 t t1 t2)
  · rcases h with ⟨t', h1, h2, h3, h4, h5⟩ | ⟨h1, h2⟩
    · exact absurd h4 (t1 t' h2 h3)
    · exact br_t h1.symm hp
theorem sq_224 {o n d j sm : Nat} (hp : post 1 ()) (hK : sq_K x0 x1 x2 o n d a2) (hj : j < 2 ^ 31) (hy : (0 ≤ x4 ∧ x4 = nI j) ∨ (¬ 0 ≤ x4 ∧ j = 0)) (hsm : (sm = 1 ∧ sq_b8 x0 = sq_b8 x1) ∨ (sm = 0 ∧ ¬ sq_b8 x0 = sq_b8 x1)) :
    wL_lawOf_224 post mc ms x0 x2 x4 (nI o) (nI n) (nI sm) (nI j) kc ks dl (nI n) fi co lo ra he hc ba wr cd rd ml md a1 a2 a3 a4 := by
  have hK' := hK
  obtain ⟨k1, k2, k3, k4⟩ := hK'
  refine pk_lt j n (fun z => pk_eq j 0 (fun w => ?_) (fun w => pk_eq sm 0 (fun y => ?_) (fun y => ?_))) (fun z => sq_295 hp hK hj hy (Or.inr ⟨rfl, fun u u1 u2 => absurd u2 (by omega)⟩))
  · subst w
    exact sq_295 hp hK hj hy (Or.inl ⟨0, rfl, by omega, by omega, sq_DD_0 _ _ _, fun u u1 u2 => absurd u2 (by omega)⟩)
  · have hns : ¬ sq_b8 x0 = sq_b8 x1 := by
      rcases hsm with h | h
      · omega
      · exact h.2
    have hne : ∀ {u : Nat}, sq_DD d (sq_b8 x0) (sq_b8 x1) u = sq_b8 x1 → ¬ sq_DD d (sq_b8 x0) (sq_b8 x1) u = sq_b8 x0 := fun h1 h2 => hns (h2.symm.trans h1)
    refine pk_eq o 0 (fun v => ?_) (fun v => ?_)
    · have hd : n = 2 ∧ d = 1 := by omega
      obtain ⟨hd1, hd2⟩ := hd
      subst hd2
      exact sq_295 hp hK hj hy (Or.inr ⟨rfl, fun u u1 u2 => hne (sq_DD_r (by omega))⟩)
    · have k3' : x2 = nI d ∧ (d = 1 ∨ d = 2) := by
        rcases k3 with h | h
        · omega
        · exact h.2
      obtain ⟨e2, hd⟩ := k3'
      rcases hd with hd | hd
      · subst hd
        refine pk_eq 1 2 (fun t => absurd t (by decide)) (fun _ => sq_295 hp hK hj hy (Or.inr ⟨rfl, fun u u1 u2 => hne (sq_DD_r (by omega))⟩)) e2
      · subst hd
        refine pk_eq 2 2 (fun _ => ?_) (fun t => absurd rfl t) e2
        refine pk_eq (j % 2) 0 (fun t => ?_) (fun t => ?_) (sq_and1 (by omega))
        · exact sq_295 hp hK hj hy (Or.inl ⟨j, rfl, by omega, z, sq_DD_e t, fun u u1 u2 => absurd u2 (by omega)⟩)
        · refine pk_le n (j + 1) (fun t2 => ?_) (fun t2 => ?_) rfl (nI_1 j)
          · exact sq_295 hp hK hj hy (Or.inr ⟨rfl, fun u u1 u2 => hne (sq_DD_o (by omega))⟩)
          · exact sq_295 hp hK hj hy (Or.inl ⟨j + 1, nI_1 j, by omega, t2, sq_DD_e (by omega), fun u u1 u2 => hne (sq_DD_o (by omega))⟩)
  · have hs : sq_b8 x0 = sq_b8 x1 := by
      rcases hsm with h | h
      · exact h.2
      · omega
    refine sq_295 hp hK hj hy (Or.inl ⟨j, rfl, by omega, z, ?_, fun u u1 u2 => absurd u2 (by omega)⟩)
    rw [← hs, sq_DD_s]
theorem sq_211 {o n d sm : Nat} (hp : post 1 ()) (hK : sq_K x0 x1 x2 o n d a2) (hsm : (sm = 1 ∧ sq_b8 x0 = sq_b8 x1) ∨ (sm = 0 ∧ ¬ sq_b8 x0 = sq_b8 x1)) :
    wL_lawOf_211 post mc ms x0 x2 x4 (nI o) (nI n) (nI sm) kc ks dl (nI n) fi co lo ra he hc ba wr cd rd ml md a1 a2 a3 a4 := by
  refine br_c (fun z => ?_) (fun z => ?_)
  · obtain ⟨j, j1, j2⟩ := nI_of (x := x4) (Int32.not_lt.mpr z)
    subst j2
    exact sq_224 hp hK j1 (Or.inl ⟨z, rfl⟩) hsm
  · exact sq_224 (j := 0) hp hK (by decide) (Or.inr ⟨z, rfl⟩) hsm
theorem sq_166 {o n d : Nat} {z : Int32} (hp : post 1 ()) (hK : sq_K x0 x1 x2 o n d a2) (hz : nI (sq_DD d (sq_b8 x0) (sq_b8 x1) (n - 1)) = z) :
    wL_lawOf_166 post mc ms x0 x1 x2 x4 (nI o) (nI n) z kc ks dl (nI n) fi 1 lo ra he hc ba wr cd rd ml md a1 a2 a3 a4 := by
  have hK' := hK
  obtain ⟨k1, k2, k3, k4⟩ := hK'
  unfold wL_lawOf_166
  rw [show nI n - 1 = nI (n - 1) from pk_sub (b := 1) (by omega)]
  refine sq_at (by omega) k2 (br_t ((k4 (n - 1) (by omega)).trans hz) (br_t rfl (br_c (fun e => ?_) (fun e => ?_))))
  · rw [sq_b8_and, sq_b8_and] at e
    have w1 := sq_b8_lt x0
    have w2 := sq_b8_lt x1
    exact sq_211 (sm := 1) hp hK (Or.inl ⟨rfl, (nI_eq (by omega) (by omega)).mp e⟩)
  · rw [sq_b8_and, sq_b8_and] at e
    exact sq_211 (sm := 0) hp hK (Or.inr ⟨rfl, fun w => e (by rw [w])⟩)
theorem sq_134 {o n d : Nat} (hp : post 1 ()) (hK : sq_K x0 x1 x2 o n d a2) :
    wL_lawOf_134 post mc ms x0 x1 x2 x4 (nI o) (nI n) kc ks dl (nI n) fi 1 lo ra he hc ba wr cd rd ml md a1 a2 a3 a4 := by
  have hK' := hK
  obtain ⟨k1, k2, k3, k4⟩ := hK'
  have LB : sq_DD d (sq_b8 x0) (sq_b8 x1) (n - 1) = sq_b8 x1 → wL_lawOf_153 post mc ms x0 x1 x2 x4 (nI o) (nI n) kc ks dl (nI n) fi 1 lo ra he hc ba wr cd rd ml md a1 a2 a3 a4 := by
    intro h
    unfold wL_lawOf_153
    exact sq_166 hp hK (by rw [h, sq_b8_and])
  refine pk_eq o 0 (fun v => ?_) (fun v => ?_) (by rfl) (by rfl) (by omega) (by omega)
  · have hd : n = 2 ∧ d = 1 := by omega
    obtain ⟨hd1, hd2⟩ := hd
    subst hd2
    exact LB (sq_DD_r (by omega))
  · have k3' : x2 = nI d ∧ (d = 1 ∨ d = 2) := by
      rcases k3 with h | h
      · omega
      · exact h.2
    obtain ⟨e2, hd⟩ := k3'
    rcases hd with hd | hd
    · subst hd
      exact pk_eq 1 1 (fun _ => LB (sq_DD_r (by omega))) (fun t => absurd rfl t) e2
    · subst hd
      refine pk_eq 2 1 (fun t => absurd t (by decide)) (fun _ => ?_) e2
      refine pk_eq (n % 2) 0 (fun t => LB (sq_DD_o (by omega))) (fun t => ?_) (sq_and1 (by omega))
      exact sq_166 hp hK (by rw [sq_DD_e (by omega), sq_b8_and])
/-- what the law knows once the draft is made -/
def sq_H (x0 x1 x2 x3 : Int32) (o n d : Nat) : Prop :=
  (o = 0 ∧ n = 2 ∧ d = 1) ∨ (o = 1 ∧ x2 = nI d ∧ (d = 1 ∨ d = 2) ∧ x3 = nI (n - 2) ∧ 2 ≤ n ∧ n ≤ 48)
theorem sq_117 {o n d : Nat} (hp : post 1 ()) (hH : sq_H x0 x1 x2 x3 o n d) (h2 : ∀ k, k < n → a2 k = nI (sq_DD d (sq_b8 x0) (sq_b8 x1) k)) :
    (nI o = 0 → wL_lawOf_117 post mc ms x0 x1 x2 x3 x4 (nI o) 2 (nI n) kc ks dl (nI n) fi 1 lo ra he hc ba wr cd rd ml md a1 a2 a3 a4) ∧ (¬ nI o = 0 → wL_lawOf_117 post mc ms x0 x1 x2 x3 x4 (nI o) (2 + x3) (nI n) kc ks dl (nI n) fi 1 lo ra he hc ba wr cd rd ml md a1 a2 a3 a4) := by
  have ho : o < 2 := by
    rcases hH with h | h
    · omega
    · omega
  have e3 : ¬ o = 0 → (2 : Int32) + x3 = nI n := by
    intro v
    rcases hH with h | h
    · omega
    · rw [h.2.2.2.1, show (2 : Int32) + nI (n - 2) = nI (2 + (n - 2)) from nI_add 2 (n - 2)]
      congr 1
      omega
  have hK : sq_K x0 x1 x2 o n d a2 := by
    rcases hH with h | h
    · exact ⟨by omega, by omega, Or.inl h, h2⟩
    · exact ⟨h.2.2.2.2.1, h.2.2.2.2.2, Or.inr ⟨h.1, h.2.1, h.2.2.1⟩, h2⟩
  refine pk_eq o 0 (fun v => ?_) (fun v => ?_)
  · have hn : n = 2 := by
      rcases hH with h | h
      · exact h.2.1
      · omega
    refine br_t (show nI n = nI 2 by rw [hn]) (br_t (show nI o = nI 0 by rw [v]) ?_)
    have h := sq_134 (dl := dl) (fi := fi) (lo := lo) (ra := ra) (he := he) (hc := hc) (ba := ba) (wr := wr) (cd := cd) (rd := rd) (ml := ml) (md := md) (a1 := a1) (a3 := a3) (a4 := a4) (mc := mc) (ms := ms) (kc := kc) (ks := ks) (x4 := x4) hp hK
    rw [hn] at h ⊢
    exact h
  · refine br_t (e3 v).symm (br_f (nI_ne0 (by omega) (by omega)) ?_)
    rw [e3 v]
    exact sq_134 hp hK
theorem sq_75 {o n d : Nat} {z : Int32} (hp : post 1 ()) (hH : sq_H x0 x1 x2 x3 o n d) (h1 : ∀ k, k < n → a1 k = nI (sq_DD d (sq_b8 x0) (sq_b8 x1) k)) :
    wL_lawOf_75 post mc ms x0 x1 x2 x3 x4 (nI o) z z kc ks (nI n) pl 0 0 lo ra he hc ba wr cd rd ml md a1 a2 a3 a4 := by
  have hd : 1 ≤ d ∧ d ≤ 2 ∧ 2 ≤ n ∧ n ≤ 48 := by
    rcases hH with h | h
    · omega
    · omega
  obtain ⟨d1, d2, n1, n2⟩ := hd
  have hlt := sq_DD_lt (d := d) (sq_b8_lt x0) (sq_b8_lt x1)
  refine br_t rfl ?_
  refine sq_send (D := sq_DD d (sq_b8 x0) (sq_b8 x1)) (c := 0) (by decide) n2 (fun k hk => ⟨h1 k hk, hlt k⟩) d1 d2 (fun k k1 _ => sq_DD_p d1 d2 k k1) (fun lo1 ra1 he1 hc1 wr1 ml1 md1 t1 u1 fr1 dec1 => ?_)
  obtain ⟨f, f1, f2⟩ := dec1
  refine sq_erase ?_
  refine sq_send (n := 0) (D := sq_DD d (sq_b8 x0) (sq_b8 x1)) (c := 1) (by decide) (by decide) (fun k hk => absurd hk (by omega)) d1 d2 (fun k _ k2 => absurd k2 (by omega)) (fun lo2 ra2 he2 hc2 wr2 ml2 md2 t2 u2 fr2 _ => ?_)
  refine br_t rfl ?_
  have hY : sq_Y (sq_by t1 (352 * 0)) 0 t2 := by
    refine ⟨fun i => sq_by_lt _ _ _, by decide, fun i hi => ?_⟩
    unfold sq_by
    rw [fr2 (0 + i) (Or.inl (by omega))]
  exact sq_receive hY n2 (fun k _ => hlt k) f1 f2 (fun ra3 cd3 rd3 v3 u3 h3 => sq_117 hp hH h3)
theorem sq_54n (hp : post 1 ()) (h0 : a1 0 = nI (sq_b8 x0)) (h1 : a1 1 = nI (sq_b8 x1)) (h : x2 < 1 ∨ 2 < x2 ∨ x3 < 1 ∨ 46 < x3) :
    wL_lawOf_54 post mc ms x0 x1 x2 x3 x4 0 kc ks (nI 2) pl 0 0 lo ra he hc ba wr cd rd ml md a1 a2 a3 a4 := by
  unfold wL_lawOf_54
  refine sq_repeat_no h (br_t rfl (sq_75 (o := 0) (n := 2) (d := 1) hp (Or.inl ⟨rfl, rfl, rfl⟩) (fun k hk => ?_)))
  exact sq_DD_a (n := 2) (by decide) (by decide) h0 h1 (fun k k1 k2 => absurd k2 (by omega)) 2 k hk hk
theorem sq_54y (hp : post 1 ()) (h0 : a1 0 = nI (sq_b8 x0)) (h1 : a1 1 = nI (sq_b8 x1)) (g1 : ¬ x2 < 1) (g2 : ¬ 2 < x2) (g3 : ¬ x3 < 1) (g4 : ¬ 46 < x3) :
    wL_lawOf_54 post mc ms x0 x1 x2 x3 x4 1 kc ks (nI 2) pl 0 0 lo ra he hc ba wr cd rd ml md a1 a2 a3 a4 := by
  obtain ⟨d, d0, rfl⟩ := nI_of (x := x2) (fun z => g1 (Int32.lt_trans z (by decide)))
  obtain ⟨c, c0, rfl⟩ := nI_of (x := x3) (fun z => g3 (Int32.lt_trans z (by decide)))
  have d1 : 1 ≤ d := by
    rcases Nat.lt_or_ge d 1 with z | z
    · exact absurd (nI_lt z (by decide)) g1
    · exact z
  have d2 : d ≤ 2 := by
    rcases Nat.lt_or_ge 2 d with z | z
    · exact absurd (nI_lt z d0) g2
    · exact z
  have c1 : 1 ≤ c := by
    rcases Nat.lt_or_ge c 1 with z | z
    · exact absurd (nI_lt z (by decide)) g3
    · exact z
  have c2 : c ≤ 46 := by
    rcases Nat.lt_or_ge 46 c with z | z
    · exact absurd (nI_lt z c0) g4
    · exact z
  unfold wL_lawOf_54
  refine sq_repeat_ok d1 d2 c1 c2 (fun t t1 t2 => br_f (by decide) ?_)
  rw [show (2 : Int32) + nI c = nI (2 + c) from nI_add 2 c]
  refine sq_75 (o := 1) (n := 2 + c) (d := d) hp (Or.inr ⟨rfl, rfl, by omega, by rw [show 2 + c - 2 = c by omega], by omega, by omega⟩) (fun k hk => ?_)
  exact sq_DD_a (n := 2 + c) d1 d2 ((t1 0 (by decide)).trans h0) ((t1 1 (by decide)).trans h1) t2 (2 + c) k hk hk
theorem sq_lawOf (hp : post 1 ()) : wpL_lawOf post 442 7056 () x0 x1 x2 x3 x4 := by
  refine ⟨by decide, by decide, 441, 7038, by decide, by decide, by decide, by decide, by decide, by decide, by decide, by decide, by decide, by decide, ?_⟩
  refine sq_put (k := 0) (by decide) (sq_put (k := 1) (by decide) (br_t rfl ?_))
  have h0 : upd (upd (fun _ => 0) 0 (nI (sq_b8 x0))) 1 (nI (sq_b8 x1)) 0 = nI (sq_b8 x0) := by
    rw [pk_un (by decide), pk_us]
  have h1 : upd (upd (fun _ => 0) 0 (nI (sq_b8 x0))) 1 (nI (sq_b8 x1)) 1 = nI (sq_b8 x1) := pk_us
  refine br_c (fun z => sq_54n hp h0 h1 (Or.inl z)) (fun g1 => br_c (fun z => sq_54n hp h0 h1 (Or.inr (Or.inl z))) (fun g2 => br_c (fun z => sq_54n hp h0 h1 (Or.inr (Or.inr (Or.inl z)))) (fun g3 => br_c (fun z => sq_54n hp h0 h1 (Or.inr (Or.inr (Or.inr z)))) (fun g4 => sq_54y hp h0 h1 g1 g2 g3 g4))))
theorem sq_cell {post : Int32 → Prop} {L : Nat} {xs : Nat → Int32} (k : Nat) (hL : L ≤ 5) (hk : k < 5) (H : ∀ r, post r) : wpL_cellAt post L xs () (nI k) :=
  pk_le L k (fun _ => H _) (fun z => ⟨pk_in k L z, H _⟩)
end
end
section
theorem i_vc (xs : Nat → Int32) (L : Nat) (hL : L ≤ 5) : wpL_law (fun r => r = 1) L xs := by
  unfold wpL_law
  exact sq_cell 0 hL (by decide) (fun r0 => sq_cell 1 hL (by decide) (fun r1 => sq_cell 2 hL (by decide) (fun r2 => sq_cell 3 hL (by decide) (fun r3 => sq_cell 4 hL (by decide) (fun r4 => ⟨442, 7056, by decide, by decide, sq_lawOf rfl⟩)))))
end
