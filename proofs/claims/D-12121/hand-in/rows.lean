section
/-! ===== numbers as bits of a long: mv_bt s n ===== -/
def mv_k (n : Int32) : Nat := (n.toInt64.toUInt64 &&& Int64.toUInt64 63).toNat
def mv_bt (s : Int64) (n : Int32) : Bool := s.toBitVec.getLsbD (mv_k n)
def mv_bit (m : Int32) : Int64 := (1 : Int64) <<< (m.toInt64 &&& 63)
theorem mv_k_lt (n : Int32) : mv_k n < 64 := by
  unfold mv_k
  rw [UInt64.toNat_and, show (Int64.toUInt64 63).toNat = 63 by decide]
  exact Nat.lt_succ_of_le Nat.and_le_right
theorem mv_k_nI : ∀ k, k < 64 → mv_k (nI k) = k := by decide +kernel
theorem mv_sh (s : Int64) (n : Int32) : ((s.toUInt64 >>> (n.toInt64.toUInt64 &&& Int64.toUInt64 63)).toInt64).toBitVec = s.toBitVec >>> mv_k n := by
  apply BitVec.eq_of_toNat_eq
  show (s.toUInt64 >>> (n.toInt64.toUInt64 &&& Int64.toUInt64 63)).toNat = _
  rw [UInt64.toNat_shiftRight, show (n.toInt64.toUInt64 &&& Int64.toUInt64 63).toNat = mv_k n from rfl, Nat.mod_eq_of_lt (mv_k_lt n), BitVec.toNat_ushiftRight]
  rfl
theorem mv_and1 (s : Int64) (n : Int32) : (((s.toUInt64 >>> (n.toInt64.toUInt64 &&& Int64.toUInt64 63)).toInt64) &&& 1).toBitVec = BitVec.setWidth 64 (BitVec.ofBool (mv_bt s n)) := by
  rw [Int64.toBitVec_and, mv_sh]
  show s.toBitVec >>> mv_k n &&& 1#64 = _
  rw [BitVec.and_one_eq_setWidth_ofBool_getLsbD, BitVec.getLsbD_ushiftRight, Nat.add_zero]
  rfl
theorem mv_e1 {s : Int64} {n : Int32} : (((s.toUInt64 >>> (n.toInt64.toUInt64 &&& Int64.toUInt64 63)).toInt64) &&& 1) = 1 ↔ mv_bt s n = true := by
  rw [← Int64.toBitVec_inj, mv_and1]
  cases mv_bt s n
  · exact ⟨fun z => absurd z (by decide), fun z => absurd z (by decide)⟩
  · exact ⟨fun _ => rfl, fun _ => by decide⟩
theorem mv_e0 {s : Int64} {n : Int32} : (((s.toUInt64 >>> (n.toInt64.toUInt64 &&& Int64.toUInt64 63)).toInt64) &&& 1) = 0 ↔ mv_bt s n = false := by
  rw [← Int64.toBitVec_inj, mv_and1]
  cases mv_bt s n
  · exact ⟨fun _ => rfl, fun _ => by decide⟩
  · exact ⟨fun z => absurd z (by decide), fun z => absurd z (by decide)⟩
theorem mv_bt_or (s u : Int64) (n : Int32) : mv_bt (s ||| u) n = (mv_bt s n || mv_bt u n) := by
  unfold mv_bt; rw [Int64.toBitVec_or, BitVec.getLsbD_or]
theorem mv_bt_and (s u : Int64) (n : Int32) : mv_bt (s &&& u) n = (mv_bt s n && mv_bt u n) := by
  unfold mv_bt; rw [Int64.toBitVec_and, BitVec.getLsbD_and]
theorem mv_bt_andn (s u : Int64) (n : Int32) : mv_bt (s &&& (u ^^^ (-1))) n = (mv_bt s n && !mv_bt u n) := by
  unfold mv_bt
  rw [Int64.toBitVec_and, Int64.toBitVec_xor, BitVec.getLsbD_and, BitVec.getLsbD_xor, show (-1 : Int64).toBitVec = BitVec.allOnes 64 by decide, BitVec.getLsbD_allOnes]
  simp [mv_k_lt n]
theorem mv_bt_0 (n : Int32) : mv_bt 0 n = false := BitVec.getLsbD_zero
theorem mv_bit_tp : ∀ m, m < 64 → (mv_bit (nI m)).toBitVec = BitVec.twoPow 64 m := by decide +kernel
theorem mv_bt_bit {m n : Nat} (hm : m < 64) (hn : n < 64) : mv_bt (mv_bit (nI m)) (nI n) = decide (m = n) := by
  unfold mv_bt
  rw [mv_bit_tp m hm, mv_k_nI n hn, BitVec.getLsbD_twoPow]
  simp [hm]
theorem mv_bt_self {m : Nat} (hm : m < 64) : mv_bt (mv_bit (nI m)) (nI m) = true := by
  rw [mv_bt_bit hm hm]; simp
/-! ===== sets of rows: bits of an int ===== -/
def mv_q (r : Int32) : Nat := ((r &&& 31).toBitVec.smod 32).toNat
def mv_rb (x r : Int32) : Bool := (x.toBitVec.sshiftRight (mv_q r)).getLsbD 0
theorem mv_r1 {x r : Int32} : ((x >>> (r &&& 31)) &&& 1) = 1 ↔ mv_rb x r = true := by
  have e : (((x >>> (r &&& 31)) &&& 1)).toBitVec = BitVec.setWidth 32 (BitVec.ofBool (mv_rb x r)) := by
    rw [Int32.toBitVec_and, Int32.toBitVec_shiftRight]
    show x.toBitVec.sshiftRight (mv_q r) &&& 1#32 = _
    rw [BitVec.and_one_eq_setWidth_ofBool_getLsbD]
    rfl
  rw [← Int32.toBitVec_inj, e]
  cases mv_rb x r
  · exact ⟨fun z => absurd z (by decide), fun z => absurd z (by decide)⟩
  · exact ⟨fun _ => rfl, fun _ => by decide⟩
theorem mv_rb_or (x y r : Int32) : mv_rb (x ||| y) r = (mv_rb x r || mv_rb y r) := by
  unfold mv_rb
  rw [Int32.toBitVec_or, BitVec.sshiftRight_or_distrib, BitVec.getLsbD_or]
theorem mv_rb_shl : ∀ j, j < 8 → mv_rb ((1 : Int32) <<< (nI j &&& 31)) (nI j) = true := by decide +kernel
/-- two sets that have nothing in common -/
theorem mv_dj_or {x y z : Int32} : (x ||| y) &&& z = 0 ↔ x &&& z = 0 ∧ y &&& z = 0 := by
  rw [← Int32.toBitVec_inj, ← Int32.toBitVec_inj, ← Int32.toBitVec_inj, Int32.toBitVec_and, Int32.toBitVec_and, Int32.toBitVec_and, Int32.toBitVec_or]
  show (x.toBitVec ||| y.toBitVec) &&& z.toBitVec = 0#32 ↔ x.toBitVec &&& z.toBitVec = 0#32 ∧ y.toBitVec &&& z.toBitVec = 0#32
  constructor
  · intro h
    have t : ∀ i, ((x.toBitVec.getLsbD i || y.toBitVec.getLsbD i) && z.toBitVec.getLsbD i) = false := by
      intro i
      have := congrArg (fun b => b.getLsbD i) h
      simpa using this
    constructor
    · apply BitVec.eq_of_getLsbD_eq
      intro i hi
      have := t i
      rw [BitVec.getLsbD_and, BitVec.getLsbD_zero]
      revert this
      cases x.toBitVec.getLsbD i <;> cases y.toBitVec.getLsbD i <;> cases z.toBitVec.getLsbD i <;> simp
    · apply BitVec.eq_of_getLsbD_eq
      intro i hi
      have := t i
      rw [BitVec.getLsbD_and, BitVec.getLsbD_zero]
      revert this
      cases x.toBitVec.getLsbD i <;> cases y.toBitVec.getLsbD i <;> cases z.toBitVec.getLsbD i <;> simp
  · rintro ⟨h1, h2⟩
    apply BitVec.eq_of_getLsbD_eq
    intro i hi
    have t1 : (x.toBitVec.getLsbD i && z.toBitVec.getLsbD i) = false := by
      have := congrArg (fun b => b.getLsbD i) h1
      simpa using this
    have t2 : (y.toBitVec.getLsbD i && z.toBitVec.getLsbD i) = false := by
      have := congrArg (fun b => b.getLsbD i) h2
      simpa using this
    rw [BitVec.getLsbD_and, BitVec.getLsbD_or, BitVec.getLsbD_zero]
    revert t1 t2
    cases x.toBitVec.getLsbD i <;> cases y.toBitVec.getLsbD i <;> cases z.toBitVec.getLsbD i <;> simp
theorem mv_dj_comm {x y : Int32} (h : x &&& y = 0) : y &&& x = 0 := by rw [Int32.and_comm]; exact h
theorem mv_dj_0 (x : Int32) : (0 : Int32) &&& x = 0 := by simp
theorem mv_or_0 (x : Int32) : x ||| 0 = x := by simp
theorem mv_or_assoc (x y z : Int32) : x ||| (y ||| z) = (x ||| y) ||| z := (Int32.or_assoc x y z).symm
theorem mv_shl_m : ∀ j, j < 8 → ((1 : Int32) <<< (nI j &&& 31)) &&& (-256) = 0 := by decide +kernel
theorem mv_shl_tp : ∀ j, j < 8 → ((1 : Int32) <<< (nI j &&& 31)).toBitVec = BitVec.twoPow 32 j := by decide +kernel
theorem mv_q_nI : ∀ j, j < 8 → mv_q (nI j) = j := by decide +kernel
/-- a row that isn't in the set -/
theorem mv_shl_dj {x : Int32} {j : Nat} (hj : j < 8) (h : mv_rb x (nI j) = false) : ((1 : Int32) <<< (nI j &&& 31)) &&& x = 0 := by
  rw [← Int32.toBitVec_inj, Int32.toBitVec_and, mv_shl_tp j hj]
  show BitVec.twoPow 32 j &&& x.toBitVec = 0#32
  have h' : x.toBitVec.getLsbD j = false := by
    unfold mv_rb at h
    rw [mv_q_nI j hj, BitVec.getLsbD_sshiftRight] at h
    have h8 : j < 32 := by omega
    simpa [h8] using h
  apply BitVec.eq_of_getLsbD_eq
  intro i hi
  rw [BitVec.getLsbD_and, BitVec.getLsbD_twoPow, BitVec.getLsbD_zero]
  by_cases e : j = i
  · subst e; rw [h']; simp
  · simp [e]
/-- within 255 -/
theorem mv_255 {x : Int32} (h : x &&& (-256) = 0) : ∃ j, j < 256 ∧ x = nI j := by
  refine ⟨x.toBitVec.toNat % 256, Nat.mod_lt _ (by decide), ?_⟩
  have e := pk_and x (m := 255) 8 (by decide)
  have e2 : x &&& 255 = x := by
    rw [← Int32.toBitVec_inj] at h ⊢
    rw [Int32.toBitVec_and] at h ⊢
    apply BitVec.eq_of_getLsbD_eq
    intro i hi
    have := congrArg (fun b => b.getLsbD i) h
    have t : (x.toBitVec.getLsbD i && (-256 : Int32).toBitVec.getLsbD i) = false := by simpa using this
    rw [BitVec.getLsbD_and]
    have k : ∀ i, i < 32 → (-256 : Int32).toBitVec.getLsbD i = !(255 : Int32).toBitVec.getLsbD i := by decide +kernel
    rw [k i hi] at t
    revert t
    cases x.toBitVec.getLsbD i <;> cases (255 : Int32).toBitVec.getLsbD i <;> simp
  exact e2.symm.trans e
/-- the number of rows in a set -/
def mv_sz (x : Int32) : Nat → Int32
  | 0 => 0
  | k + 1 => mv_sz x k + ((x >>> (nI k &&& 31)) &&& 1)
theorem mv_sz_f : ∀ j, j < 256 → ¬ 8 < mv_sz (nI j) 8 ∧ (mv_sz (nI j) 8 = 0 ↔ nI j = 0) ∧ ¬ mv_sz (nI j) 8 < 0 := by decide +kernel
end
section
/-! ===== what the reading methods compute, in plain terms ===== -/
def mv_in (s : Int64) (n : Int32) : Bool := decide (n = 0) || mv_bt s n
def mv_se (a4 a5 : Nat → Int32) (s : Int64) (v : Nat) : Bool := mv_in s (a4 v) && (decide (a5 v = 0) || !mv_in s (a5 v))
def mv_vi (a1 a2 a4 a5 : Nat → Int32) (s : Int64) (x : Int32) (v : Nat) : Bool := !decide (a1 v = 0) && (decide (a2 v = x) && mv_se a4 a5 s v)
def mv_vf (P : Nat → Bool) : Nat → Nat → Int32
  | 0, _ => -1
  | k + 1, i => if P i = true then nI i else mv_vf P k (i + 1)
theorem mv_vf_s (P : Nat → Bool) (k i : Nat) : mv_vf P (k + 1) i = if P i = true then nI i else mv_vf P k (i + 1) := rfl
theorem mv_vf_c (P : Nat → Bool) : ∀ k i, (mv_vf P k i = -1 ∧ ∀ v, i ≤ v → v < i + k → P v = false) ∨ ∃ v, i ≤ v ∧ v < i + k ∧ P v = true ∧ mv_vf P k i = nI v := by
  intro k
  induction k with
  | zero => exact fun i => Or.inl ⟨rfl, fun v h1 h2 => absurd h2 (by omega)⟩
  | succ k ih =>
    intro i
    rw [mv_vf_s]
    by_cases h : P i = true
    · rw [if_pos h]
      exact Or.inr ⟨i, Nat.le_refl i, by omega, h, rfl⟩
    · rw [if_neg h]
      rcases ih (i + 1) with ⟨e, g⟩ | ⟨v, h1, h2, h3, h4⟩
      · refine Or.inl ⟨e, fun v h1 h2 => ?_⟩
        by_cases hv : v = i
        · rw [hv]; exact Bool.eq_false_iff.mpr h
        · exact g v (by omega) (by omega)
      · exact Or.inr ⟨v, by omega, by omega, h3, h4⟩
theorem mv_vf_congr {P Q : Nat → Bool} : ∀ k i, (∀ v, i ≤ v → v < i + k → P v = Q v) → mv_vf P k i = mv_vf Q k i := by
  intro k
  induction k with
  | zero => exact fun i _ => rfl
  | succ k ih =>
    intro i h
    rw [mv_vf_s, mv_vf_s, h i (Nat.le_refl i) (by omega), ih (i + 1) (fun v h1 h2 => h v (by omega) (by omega))]
/-- the version that is seen, or -1 -/
def mv_V (P : Nat → Bool) : Int32 := mv_vf P 96 0
theorem mv_V_c (P : Nat → Bool) : (mv_V P = -1 ∧ ∀ v, v < 96 → P v = false) ∨ ∃ v, v < 96 ∧ P v = true ∧ mv_V P = nI v := by
  rcases mv_vf_c P 96 0 with ⟨e, g⟩ | ⟨v, h1, h2, h3, h4⟩
  · exact Or.inl ⟨e, fun v hv => g v (by omega) (by omega)⟩
  · exact Or.inr ⟨v, by omega, h3, h4⟩
theorem mv_V_congr {P Q : Nat → Bool} (h : ∀ v, v < 96 → P v = Q v) : mv_V P = mv_V Q := mv_vf_congr 96 0 (fun v _ h2 => h v (by omega))
theorem mv_V_in {P : Nat → Bool} (h : 0 ≤ mv_V P) : vp_in (mv_V P) 96 := by
  rcases mv_V_c P with ⟨e, _⟩ | ⟨v, h1, _, e⟩
  · rw [e] at h; exact absurd h (by decide)
  · rw [e]; exact vp_in_nI h1 (by decide)
theorem mv_nlt {x : Int32} : ¬ x < 0 ↔ 0 ≤ x := by
  rw [Int32.lt_iff_toInt_lt, Int32.le_iff_toInt_le]
  omega
theorem mv_nle {x : Int32} : ¬ 0 ≤ x ↔ x < 0 := by
  rw [Int32.lt_iff_toInt_lt, Int32.le_iff_toInt_le]
  omega
/-- counting -/
def mv_rn (P : Nat → Bool) : Nat → Nat
  | 0 => 0
  | k + 1 => mv_rn P k + (if P k = true then 1 else 0)
theorem mv_rn_t {P : Nat → Bool} {k : Nat} (h : P k = true) : mv_rn P (k + 1) = mv_rn P k + 1 := by
  show mv_rn P k + (if P k = true then 1 else 0) = _
  rw [if_pos h]
theorem mv_rn_f {P : Nat → Bool} {k : Nat} (h : P k = false) : mv_rn P (k + 1) = mv_rn P k := by
  show mv_rn P k + (if P k = true then 1 else 0) = _
  rw [h, if_neg (by decide)]; rfl
theorem mv_rn_le (P : Nat → Bool) : ∀ k, mv_rn P k ≤ k := by
  intro k
  induction k with
  | zero => exact Nat.le_refl 0
  | succ k ih =>
    cases h : P k
    · rw [mv_rn_f h]; omega
    · rw [mv_rn_t h]; omega
theorem mv_rn_mono {P Q : Nat → Bool} (h : ∀ j, P j = true → Q j = true) : ∀ k, mv_rn P k ≤ mv_rn Q k := by
  intro k
  induction k with
  | zero => exact Nat.le_refl 0
  | succ k ih =>
    cases hp : P k
    · rw [mv_rn_f hp]
      cases hq : Q k
      · rw [mv_rn_f hq]; exact ih
      · rw [mv_rn_t hq]; omega
    · rw [mv_rn_t hp, mv_rn_t (h k hp)]; omega
def mv_pr (c : Int64) (a1 a2 a4 a5 : Nat → Int32) (k : Nat) : Bool := decide (0 ≤ mv_V (mv_vi a1 a2 a4 a5 c (nI k)))
def mv_rows (c : Int64) (a1 a2 a4 a5 : Nat → Int32) : Int32 := nI (mv_rn (mv_pr c a1 a2 a4 a5) 8)
theorem mv_rows_congr {c c' : Int64} {a1 a2 a4 a5 b1 b2 b4 b5 : Nat → Int32} (h : ∀ x v, v < 96 → mv_vi a1 a2 a4 a5 c x v = mv_vi b1 b2 b4 b5 c' x v) : mv_rows c a1 a2 a4 a5 = mv_rows c' b1 b2 b4 b5 := by
  have e : mv_pr c a1 a2 a4 a5 = mv_pr c' b1 b2 b4 b5 := by
    funext k
    unfold mv_pr
    rw [mv_V_congr (fun v hv => h (nI k) v hv)]
  unfold mv_rows
  rw [e]
/-- a transaction's numbers, the rows that it changed -/
def mv_os (a9 : Nat → Int32) (t : Nat) : Nat → Int64
  | 0 => 0
  | k + 1 => mv_os a9 t k ||| mv_bit (a9 (t * 4 + k))
def mv_cb (a10 : Nat → Int32) (t : Nat) : Nat → Int32
  | 0 => 0
  | k + 1 => mv_cb a10 t k ||| a10 (t * 4 + k)
theorem mv_os_bt {a9 : Nat → Int32} {t : Nat} {n : Int32} : ∀ k, mv_bt (mv_os a9 t k) n = true → ∃ j, j < k ∧ mv_bt (mv_bit (a9 (t * 4 + j))) n = true := by
  intro k
  induction k with
  | zero =>
    intro h
    have e : mv_bt (mv_os a9 t 0) n = false := mv_bt_0 n
    rw [e] at h
    exact absurd h (by decide)
  | succ k ih =>
    intro h
    have e : mv_bt (mv_os a9 t (k + 1)) n = (mv_bt (mv_os a9 t k) n || mv_bt (mv_bit (a9 (t * 4 + k))) n) := mv_bt_or _ _ _
    rw [e, Bool.or_eq_true] at h
    rcases h with h | h
    · obtain ⟨j, h1, h2⟩ := ih h
      exact ⟨j, by omega, h2⟩
    · exact ⟨k, by omega, h⟩
theorem mv_cb_rb {a10 : Nat → Int32} {t : Nat} {x : Int32} : ∀ k j, j < k → mv_rb (a10 (t * 4 + j)) x = true → mv_rb (mv_cb a10 t k) x = true := by
  intro k
  induction k with
  | zero => exact fun j h => absurd h (by omega)
  | succ k ih =>
    intro j hj h
    show mv_rb (mv_cb a10 t k ||| a10 (t * 4 + k)) x = true
    rw [mv_rb_or, Bool.or_eq_true]
    by_cases e : j = k
    · subst e; exact Or.inr h
    · exact Or.inl (ih j (by omega) h)
theorem mv_cb_n {a10 : Nat → Int32} {t p : Nat} {x : Int32} : ∀ k, (∀ j, j < k → t * 4 + j ≠ p) → mv_cb (upd a10 p x) t k = mv_cb a10 t k := by
  intro k
  induction k with
  | zero => exact fun _ => rfl
  | succ k ih =>
    intro h
    show mv_cb (upd a10 p x) t k ||| upd a10 p x (t * 4 + k) = mv_cb a10 t k ||| a10 (t * 4 + k)
    rw [ih (fun j hj => h j (by omega)), pk_un (h k (by omega))]
def mv_lev (a8 : Nat → Int32) (t : Nat) : Nat := (a8 t).toNatClampNeg
def mv_cbo (a8 a10 : Nat → Int32) (t : Nat) : Int32 := mv_cb a10 t (mv_lev a8 t + 1)
def mv_oso (a8 a9 : Nat → Int32) (t : Nat) : Int64 := mv_os a9 t (mv_lev a8 t + 1)
def mv_L (a6 a8 : Nat → Int32) : Prop := ∀ t, t < 4 → a6 t ≠ 0 → a8 t = nI (mv_lev a8 t) ∧ mv_lev a8 t ≤ 3
/-- what changed(x) answers -/
def mv_ch (a6 a8 a10 : Nat → Int32) (x : Int32) : Int32 :=
  if x < 0 then -1 else if x < 4 then (if a6 x.toNatClampNeg = 0 then -2 else mv_cbo a8 a10 x.toNatClampNeg) else -1
theorem mv_ch_op {a6 a8 a10 : Nat → Int32} {t : Nat} (ht : t < 4) (h : a6 t ≠ 0) : mv_ch a6 a8 a10 (nI t) = mv_cbo a8 a10 t := by
  unfold mv_ch
  rw [if_neg (nI_pos (by omega)), if_pos (show nI t < 4 from nI_lt (b := 4) ht (by decide)), nI_clamp (by omega), if_neg h]
theorem mv_ch_cl {a6 a8 a10 : Nat → Int32} {t : Nat} (ht : t < 4) (h : a6 t = 0) : mv_ch a6 a8 a10 (nI t) = -2 := by
  unfold mv_ch
  rw [if_neg (nI_pos (by omega)), if_pos (show nI t < 4 from nI_lt (b := 4) ht (by decide)), nI_clamp (by omega), if_pos h]
theorem mv_ix {t k : Nat} : nI t * 4 + nI k = nI (t * 4 + k) := by
  rw [show (4 : Int32) = nI 4 from rfl, pk_mul, nI_add]
theorem mv_ix0 {t : Nat} : nI t * 4 = nI (t * 4) := by
  rw [show (4 : Int32) = nI 4 from rfl, pk_mul]
end
section
section
variable {c r : Int64} {a1 a2 a3 a4 a5 a6 : Nat → Int32} {a7 : Nat → Int64} {a8 a9 a10 a11 a12 : Nat → Int32}
/-! ===== the reading methods ===== -/
theorem mv_inw {post : Int32 → Prop} {s : Int64} {n : Int32} (h1 : mv_in s n = true → post 1) (h0 : mv_in s n = false → post 0) : wpX_in post (c, r, a1, a2, a3, a4, a5, a6, a7, a8, a9, a10, a11, a12) s n := by
  by_cases e : n = 0
  · exact br_t e (h1 (by simp [mv_in, e]))
  · refine br_f e (br_c (fun g => h1 (by simp [mv_in, mv_e1.mp g])) (fun g => h0 ?_))
    have hb : mv_bt s n = false := by
      cases hb : mv_bt s n
      · rfl
      · exact absurd (mv_e1.mpr hb) g
    simp [mv_in, e, hb]
theorem mv_seesw {post : Int32 → Prop} {s : Int64} {x : Int32} (hx : vp_in x 96) (h1 : mv_se a4 a5 s x.toNatClampNeg = true → post 1) (h0 : mv_se a4 a5 s x.toNatClampNeg = false → post 0) : wpX_sees post (c, r, a1, a2, a3, a4, a5, a6, a7, a8, a9, a10, a11, a12) s x := by
  refine ⟨hx, mv_inw (fun g => br_f (by decide) ⟨hx, br_c (fun e => h1 (by simp [mv_se, g, e])) (fun e => ⟨hx, mv_inw (fun g2 => br_f (by decide) (h0 (by simp [mv_se, g2, e]))) (fun g2 => br_t rfl (h1 (by simp [mv_se, g, g2])))⟩)⟩) (fun g => br_t rfl (h0 (by simp [mv_se, g])))⟩
theorem mv_vfw {post : Int32 → Prop} {s : Int64} {x : Int32} (h : post (mv_V (mv_vi a1 a2 a4 a5 s x))) : wpX_versionFor post (c, r, a1, a2, a3, a4, a5, a6, a7, a8, a9, a10, a11, a12) s x := by
  have H : ∀ k i, i + k = 96 → post (mv_vf (mv_vi a1 a2 a4 a5 s x) k i) → wX_versionFor_3 post s x c r a1 a2 a3 a4 a5 a6 a7 a8 a9 a10 a11 a12 (k + 1) (nI i) := by
    intro k
    induction k with
    | zero =>
      intro i hi hp
      obtain rfl : i = 96 := by omega
      exact br_t (by decide) hp
    | succ k ih =>
      intro i hi hp
      have hv : vp_in (nI i) 96 := vp_in_nI (by omega) (by decide)
      have e : (nI i).toNatClampNeg = i := nI_clamp (by omega)
      rw [mv_vf_s] at hp
      have st : mv_vi a1 a2 a4 a5 s x (nI i).toNatClampNeg = false → wX_versionFor_3 post s x c r a1 a2 a3 a4 a5 a6 a7 a8 a9 a10 a11 a12 (k + 1) (nI i + 1) := by
        intro z
        rw [e] at z
        rw [z, if_neg (by decide)] at hp
        rw [nI_1]
        exact ih (i + 1) (by omega) hp
      have fi : mv_vi a1 a2 a4 a5 s x (nI i).toNatClampNeg = true → post (nI i) := by
        intro z
        rw [e] at z
        rw [if_pos z] at hp
        exact hp
      exact br_f (nI_ge (b := 96) (by omega) (by decide)) ⟨hv, br_c (fun g => nm_e (st (by simp [mv_vi, g]))) (fun g => ⟨hv, br_c (fun g2 => mv_seesw hv (fun g3 => br_f (by decide) (fi (by simp [mv_vi, g, g2, g3]))) (fun g3 => br_t rfl (nm_e (st (by simp [mv_vi, g3]))))) (fun g2 => nm_e (st (by simp [mv_vi, g2])))⟩)⟩
  exact ⟨97, H 96 0 rfl h⟩
theorem mv_rowsw {post : Int32 → Prop} (h : post (mv_rows c a1 a2 a4 a5)) : wpX_rows post (c, r, a1, a2, a3, a4, a5, a6, a7, a8, a9, a10, a11, a12) := by
  have H : ∀ k i, i + k = 8 → wX_rows_4 post c r a1 a2 a3 a4 a5 a6 a7 a8 a9 a10 a11 a12 (k + 1) (nI (mv_rn (mv_pr c a1 a2 a4 a5) i)) (nI i) := by
    intro k
    induction k with
    | zero =>
      intro i hi
      obtain rfl : i = 8 := by omega
      exact br_t (by decide) h
    | succ k ih =>
      intro i hi
      have ih' := ih (i + 1) (by omega)
      refine br_f (nI_ge (b := 8) (by omega) (by decide)) (mv_vfw (br_c (fun g => ?_) (fun g => ?_)))
      · rw [mv_rn_t (show mv_pr c a1 a2 a4 a5 i = true from decide_eq_true g)] at ih'
        exact nm_r (nI_1 _) (nm_r (nI_1 i) ih')
      · rw [mv_rn_f (show mv_pr c a1 a2 a4 a5 i = false from decide_eq_false g)] at ih'
        exact nm_r (nI_1 i) ih'
  exact ⟨9, H 8 0 rfl⟩
theorem mv_rf_bad {post : Int32 → Prop} {x : Int32} (hx : x < 0 ∨ ¬ x < 4) (h : post (-1)) : wpX_refused post (c, r, a1, a2, a3, a4, a5, a6, a7, a8, a9, a10, a11, a12) x := by
  rcases hx with hx | hx
  · exact br_t hx h
  · exact br_c (fun _ => h) (fun _ => br_f hx h)
theorem mv_rf_cl {post : Int32 → Prop} {t : Nat} (ht : t < 4) (h6 : a6 t = 0) (h : post (-2)) : wpX_refused post (c, r, a1, a2, a3, a4, a5, a6, a7, a8, a9, a10, a11, a12) (nI t) :=
  br_f (nI_pos (by omega)) (br_t (nI_lt (b := 4) ht (by decide)) ⟨vp_in_nI ht (by decide), br_t (by rw [nI_clamp (by omega)]; exact h6) h⟩)
theorem mv_rf_op {post : Int32 → Prop} {t : Nat} (ht : t < 4) (h6 : a6 t ≠ 0) (h : post 0) : wpX_refused post (c, r, a1, a2, a3, a4, a5, a6, a7, a8, a9, a10, a11, a12) (nI t) :=
  br_f (nI_pos (by omega)) (br_t (nI_lt (b := 4) ht (by decide)) ⟨vp_in_nI ht (by decide), br_f (by rw [nI_clamp (by omega)]; exact h6) h⟩)
theorem mv_x4 (x : Int32) : (x < 0 ∨ ¬ x < 4) ∨ ∃ t, t < 4 ∧ x = nI t := by
  rcases pk_ix x (n := 4) (by decide) with h | h | h
  · exact Or.inl (Or.inl h)
  · refine Or.inl (Or.inr ?_)
    rw [Int32.le_iff_toInt_le] at h
    rw [Int32.lt_iff_toInt_lt]
    have e : (nI 4).toInt = (4 : Int32).toInt := rfl
    omega
  · exact Or.inr h
theorem mv_x8 (x : Int32) : (x < 0 ∨ ¬ x < 8) ∨ ∃ t, t < 8 ∧ x = nI t := by
  rcases pk_ix x (n := 8) (by decide) with h | h | h
  · exact Or.inl (Or.inl h)
  · refine Or.inl (Or.inr ?_)
    rw [Int32.le_iff_toInt_le] at h
    rw [Int32.lt_iff_toInt_lt]
    have e : (nI 8).toInt = (8 : Int32).toInt := rfl
    omega
  · exact Or.inr h
theorem mv_rr_bad {post : Int32 → Prop} {t y : Int32} (hx : t < 0 ∨ ¬ t < 4) (h : post (-1)) : wpX_refusedRow post (c, r, a1, a2, a3, a4, a5, a6, a7, a8, a9, a10, a11, a12) t y := by
  unfold wpX_refusedRow
  exact mv_rf_bad hx (br_f (by decide) h)
theorem mv_rr_cl {post : Int32 → Prop} {t : Nat} {y : Int32} (ht : t < 4) (h6 : a6 t = 0) (h : post (-2)) : wpX_refusedRow post (c, r, a1, a2, a3, a4, a5, a6, a7, a8, a9, a10, a11, a12) (nI t) y := by
  unfold wpX_refusedRow
  exact mv_rf_cl ht h6 (br_f (by decide) h)
theorem mv_rr_row {post : Int32 → Prop} {t : Nat} {y : Int32} (ht : t < 4) (h6 : a6 t ≠ 0) (hy : y < 0 ∨ ¬ y < 8) (h : post (-1)) : wpX_refusedRow post (c, r, a1, a2, a3, a4, a5, a6, a7, a8, a9, a10, a11, a12) (nI t) y := by
  unfold wpX_refusedRow
  exact mv_rf_op ht h6 (br_t (by decide) (br_c (fun _ => h) (fun g => br_f (hy.resolve_left g) h)))
theorem mv_rr_op {post : Int32 → Prop} {t j : Nat} (ht : t < 4) (h6 : a6 t ≠ 0) (hj : j < 8) (h : post 0) : wpX_refusedRow post (c, r, a1, a2, a3, a4, a5, a6, a7, a8, a9, a10, a11, a12) (nI t) (nI j) := by
  unfold wpX_refusedRow
  exact mv_rf_op ht h6 (br_t (by decide) (br_f (nI_pos (by omega)) (br_t (nI_lt (b := 8) hj (by decide)) h)))
theorem mv_bitw {post : Int64 → Prop} {n : Int32} (h : post (mv_bit n)) : wpX_bit post (c, r, a1, a2, a3, a4, a5, a6, a7, a8, a9, a10, a11, a12) n := h
theorem mv_cbw {post : Int32 → Prop} {t : Nat} (hL : mv_L a6 a8) (ht : t < 4) (h6 : a6 t ≠ 0) (h : post (mv_cbo a8 a10 t)) : wpX_changedBy post (c, r, a1, a2, a3, a4, a5, a6, a7, a8, a9, a10, a11, a12) (nI t) := by
  obtain ⟨h8, hl⟩ := hL t ht h6
  unfold mv_cbo at h
  generalize mv_lev a8 t = l at h8 hl h
  have et : (nI t).toNatClampNeg = t := nI_clamp (by omega)
  have H : ∀ k i, i + k = l + 1 → wX_changedBy_4 post (nI t) c r a1 a2 a3 a4 a5 a6 a7 a8 a9 a10 a11 a12 (k + 1) (mv_cb a10 t i) (nI i) := by
    intro k
    induction k with
    | zero =>
      intro i hi
      obtain rfl : i = l + 1 := by omega
      refine ⟨vp_in_nI ht (by decide), ?_⟩
      rw [et, h8]
      exact br_t (nI_lt (by omega) (by omega)) h
    | succ k ih =>
      intro i hi
      have ih' := ih (i + 1) (by omega)
      refine ⟨vp_in_nI ht (by decide), ?_⟩
      rw [et, h8, mv_ix, nI_clamp (show t * 4 + i < 2 ^ 31 by omega)]
      exact br_f (nI_nlt (by omega) (by omega)) ⟨vp_in_nI (by omega) (by decide), nm_e (nm_r (nI_1 i) ih')⟩
  exact ⟨l + 2, H (l + 1) 0 (by omega)⟩
theorem mv_osw {post : Int64 → Prop} {t : Nat} (hL : mv_L a6 a8) (ht : t < 4) (h6 : a6 t ≠ 0) (h : post (mv_oso a8 a9 t)) : wpX_ownSet post (c, r, a1, a2, a3, a4, a5, a6, a7, a8, a9, a10, a11, a12) (nI t) := by
  obtain ⟨h8, hl⟩ := hL t ht h6
  unfold mv_oso at h
  generalize mv_lev a8 t = l at h8 hl h
  have et : (nI t).toNatClampNeg = t := nI_clamp (by omega)
  have H : ∀ k i, i + k = l + 1 → wX_ownSet_5 post (nI t) c r a1 a2 a3 a4 a5 a6 a7 a8 a9 a10 a11 a12 (k + 1) (mv_os a9 t i) (nI i) := by
    intro k
    induction k with
    | zero =>
      intro i hi
      obtain rfl : i = l + 1 := by omega
      refine ⟨vp_in_nI ht (by decide), ?_⟩
      rw [et, h8]
      exact br_t (nI_lt (by omega) (by omega)) h
    | succ k ih =>
      intro i hi
      have ih' := ih (i + 1) (by omega)
      refine ⟨vp_in_nI ht (by decide), ?_⟩
      rw [et, h8, mv_ix, nI_clamp (show t * 4 + i < 2 ^ 31 by omega)]
      exact br_f (nI_nlt (by omega) (by omega)) ⟨vp_in_nI (by omega) (by decide), mv_bitw (nm_e (nm_r (nI_1 i) ih'))⟩
  exact ⟨l + 2, H (l + 1) 0 (by omega)⟩
/-- what a transaction sees of a row -/
def mv_vo (a1 a2 a4 a5 : Nat → Int32) (a7 : Nat → Int64) (a8 a9 : Nat → Int32) (t : Nat) (x : Int32) : Int32 := mv_V (mv_vi a1 a2 a4 a5 (a7 t ||| mv_oso a8 a9 t) x)
theorem mv_vow {post : Int32 → Prop} {t : Nat} {x : Int32} (hL : mv_L a6 a8) (ht : t < 4) (h6 : a6 t ≠ 0) (h : post (mv_vo a1 a2 a4 a5 a7 a8 a9 t x)) : wpX_versionOf post (c, r, a1, a2, a3, a4, a5, a6, a7, a8, a9, a10, a11, a12) (nI t) x := by
  unfold wpX_versionOf
  exact mv_osw hL ht h6 ⟨vp_in_nI ht (by decide), mv_vfw (by rw [nI_clamp (by omega)]; exact h)⟩
theorem mv_chw {post : Int32 → Prop} {x : Int32} (hL : mv_L a6 a8) (h : post (mv_ch a6 a8 a10 x)) : wpX_changed post (c, r, a1, a2, a3, a4, a5, a6, a7, a8, a9, a10, a11, a12) x := by
  unfold wpX_changed
  rcases mv_x4 x with hx | ⟨t, ht, rfl⟩
  · refine mv_rf_bad hx (br_f (by decide) ?_)
    unfold mv_ch at h
    rcases hx with hx | hx
    · rwa [if_pos hx] at h
    · by_cases g : x < 0
      · rwa [if_pos g] at h
      · rwa [if_neg g, if_neg hx] at h
  · by_cases h6 : a6 t = 0
    · rw [mv_ch_cl ht h6] at h
      exact mv_rf_cl ht h6 (br_f (by decide) h)
    · rw [mv_ch_op ht h6] at h
      exact mv_rf_op ht h6 (br_t (by decide) (mv_cbw hL ht h6 h))
theorem mv_blw {post : Int32 → Prop} {t : Nat} {x : Int32} (hL : mv_L a6 a8) (ht : t < 4) (hb : ∀ z, z < 0 → post z)
    (h0 : (∀ u, u < 4 → u ≠ t → a6 u ≠ 0 → mv_rb (mv_cbo a8 a10 u) x = false) → mv_rb (a11 t) x = false → post 0) : wpX_blocked post (c, r, a1, a2, a3, a4, a5, a6, a7, a8, a9, a10, a11, a12) (nI t) x := by
  have H : ∀ k i, i + k = 4 → (∀ u, u < i → u ≠ t → a6 u ≠ 0 → mv_rb (mv_cbo a8 a10 u) x = false) → wX_blocked_2 post (nI t) x c r a1 a2 a3 a4 a5 a6 a7 a8 a9 a10 a11 a12 (k + 1) (nI i) := by
    intro k
    induction k with
    | zero =>
      intro i hi hu
      obtain rfl : i = 4 := by omega
      refine br_t (by decide) ⟨vp_in_nI ht (by decide), ?_⟩
      rw [nI_clamp (show t < 2 ^ 31 by omega)]
      refine br_c (fun _ => hb _ (by decide)) (fun g => h0 hu ?_)
      exact Bool.eq_false_iff.mpr (fun z => g (mv_r1.mpr z))
    | succ k ih =>
      intro i hi hu
      have st : (i ≠ t → a6 i ≠ 0 → mv_rb (mv_cbo a8 a10 i) x = false) → wX_blocked_2 post (nI t) x c r a1 a2 a3 a4 a5 a6 a7 a8 a9 a10 a11 a12 (k + 1) (nI i + 1) := by
        intro g
        rw [nI_1]
        refine ih (i + 1) (by omega) (fun u h1 h2 h3 => ?_)
        by_cases e : u = i
        · subst e; exact g h2 h3
        · exact hu u (by omega) h2 h3
      refine br_f (nI_ge (b := 4) (by omega) (by decide)) (pk_eq i t (fun e => nm_e (st (fun z => absurd e z))) (fun e => ⟨vp_in_nI (by omega) (by decide), ?_⟩))
      rw [nI_clamp (show i < 2 ^ 31 by omega)]
      refine br_c (fun g => nm_e (st (fun _ z => absurd g z))) (fun g => mv_cbw hL (by omega) g (br_c (fun _ => hb _ (by decide)) (fun g2 => nm_e (st (fun _ _ => ?_)))))
      exact Bool.eq_false_iff.mpr (fun z => g2 (mv_r1.mpr z))
  exact ⟨5, H 4 0 rfl (fun u h => absurd h (by omega))⟩
end
end
section
/-! ===== the invariant, over the state's fields ===== -/
/-- (t, k): a level of savepoints that runs -/
def mv_lv (a6 a8 : Nat → Int32) (t k : Nat) : Prop := t < 4 ∧ k < 4 ∧ a6 t ≠ 0 ∧ k ≤ mv_lev a8 t
def mv_A (s : Nat) (c r : Int64) (a6 a8 a9 : Nat → Int32) : Prop :=
  (∀ n, n < 64 → mv_bt c (nI n) = true → n ≤ s) ∧ (∀ n, n < 64 → mv_bt r (nI n) = true → n ≤ s) ∧
  (∀ t k, mv_lv a6 a8 t k → ∃ m, 1 ≤ m ∧ m ≤ s ∧ a9 (t * 4 + k) = nI m ∧ mv_bt r (nI m) = true ∧ mv_bt c (nI m) = false) ∧
  (∀ t k t' k', mv_lv a6 a8 t k → mv_lv a6 a8 t' k' → a9 (t * 4 + k) = a9 (t' * 4 + k') → t = t' ∧ k = k')
def mv_B (s : Nat) (a1 a4 a5 : Nat → Int32) : Prop := ∀ v, v < 96 → a1 v ≠ 0 → (∃ m, m ≤ s ∧ a4 v = nI m) ∧ (∃ m, m ≤ s ∧ a5 v = nI m)
def mv_E (c : Int64) (a1 a2 a5 a6 : Nat → Int32) (a7 : Nat → Int64) (a11 : Nat → Int32) : Prop :=
  ∀ v t, v < 96 → a1 v ≠ 0 → t < 4 → a6 t ≠ 0 → a5 v ≠ 0 → mv_bt c (a5 v) = true → mv_bt (a7 t) (a5 v) = true ∨ mv_rb (a11 t) (a2 v) = true
def mv_F (a1 a2 a5 a6 a8 a9 a10 : Nat → Int32) : Prop :=
  ∀ v t k, v < 96 → a1 v ≠ 0 → mv_lv a6 a8 t k → a5 v = a9 (t * 4 + k) → mv_rb (a10 (t * 4 + k)) (a2 v) = true
def mv_G (a6 a8 a10 : Nat → Int32) : Prop :=
  (∀ t, t < 4 → a6 t ≠ 0 → mv_cbo a8 a10 t &&& (-256) = 0) ∧ (∀ t t', t < 4 → t' < 4 → t ≠ t' → a6 t ≠ 0 → a6 t' ≠ 0 → mv_cbo a8 a10 t &&& mv_cbo a8 a10 t' = 0)
def mv_W (i : Nat) (a1 : Nat → Int32) : Prop := ∀ v, v < 96 → i ≤ v → a1 v = 0
def mv_w (a6 a8 : Nat → Int32) (t : Nat) : Nat := if a6 t = 0 then 0 else mv_lev a8 t + 1
def mv_rc (a6 a8 : Nat → Int32) : Nat := mv_w a6 a8 0 + mv_w a6 a8 1 + mv_w a6 a8 2 + mv_w a6 a8 3
def mv_P (s i : Nat) (a6 a8 : Nat → Int32) : Prop := 17 * s ≤ mv_rc a6 a8 + 16 * i
def mv_I (s i : Nat) (c r : Int64) (a1 a2 a4 a5 a6 : Nat → Int32) (a7 : Nat → Int64) (a8 a9 a10 a11 : Nat → Int32) : Prop :=
  mv_L a6 a8 ∧ mv_A s c r a6 a8 a9 ∧ mv_B s a1 a4 a5 ∧ mv_E c a1 a2 a5 a6 a7 a11 ∧ mv_F a1 a2 a5 a6 a8 a9 a10 ∧ mv_G a6 a8 a10 ∧ mv_W i a1 ∧ mv_P s i a6 a8
/-! the same over the whole state -/
def mv_IU (s i : Nat) (u : St1) : Prop := match u with
  | (c, r, a1, a2, a3, a4, a5, a6, a7, a8, a9, a10, a11, a12) => mv_I s i c r a1 a2 a4 a5 a6 a7 a8 a9 a10 a11
def mv_RU (u : St1) : Int32 := match u with
  | (c, r, a1, a2, a3, a4, a5, a6, a7, a8, a9, a10, a11, a12) => mv_rows c a1 a2 a4 a5
def mv_CU (u : St1) (x : Int32) : Int32 := match u with
  | (c, r, a1, a2, a3, a4, a5, a6, a7, a8, a9, a10, a11, a12) => mv_ch a6 a8 a10 x
/-! ===== small rows ===== -/
theorem mv_lev_s {a8 : Nat → Int32} {t : Nat} {x : Int32} : mv_lev (upd a8 t x) t = x.toNatClampNeg := by
  unfold mv_lev; rw [pk_us]
theorem mv_lev_n {a8 : Nat → Int32} {t t' : Nat} {x : Int32} (h : t' ≠ t) : mv_lev (upd a8 t x) t' = mv_lev a8 t' := by
  unfold mv_lev; rw [pk_un h]
theorem mv_w_le {a6 a8 : Nat → Int32} (hL : mv_L a6 a8) {t : Nat} (ht : t < 4) : mv_w a6 a8 t ≤ 4 := by
  unfold mv_w
  by_cases h : a6 t = 0
  · rw [if_pos h]; omega
  · rw [if_neg h]
    have := (hL t ht h).2
    omega
theorem mv_rc_le {a6 a8 : Nat → Int32} (hL : mv_L a6 a8) : mv_rc a6 a8 ≤ 16 := by
  have h0 := mv_w_le hL (t := 0) (by omega)
  have h1 := mv_w_le hL (t := 1) (by omega)
  have h2 := mv_w_le hL (t := 2) (by omega)
  have h3 := mv_w_le hL (t := 3) (by omega)
  unfold mv_rc
  omega
theorem mv_rc_upd {a6 a8 b6 b8 : Nat → Int32} {t : Nat} (ht : t < 4) (h : ∀ u, u < 4 → u ≠ t → mv_w b6 b8 u = mv_w a6 a8 u) : mv_rc b6 b8 + mv_w a6 a8 t = mv_rc a6 a8 + mv_w b6 b8 t := by
  unfold mv_rc
  have h' : t = 0 ∨ t = 1 ∨ t = 2 ∨ t = 3 := by omega
  rcases h' with rfl | rfl | rfl | rfl
  · rw [h 1 (by omega) (by omega), h 2 (by omega) (by omega), h 3 (by omega) (by omega)]; omega
  · rw [h 0 (by omega) (by omega), h 2 (by omega) (by omega), h 3 (by omega) (by omega)]; omega
  · rw [h 0 (by omega) (by omega), h 1 (by omega) (by omega), h 3 (by omega) (by omega)]; omega
  · rw [h 0 (by omega) (by omega), h 1 (by omega) (by omega), h 2 (by omega) (by omega)]; omega
/-- any turn that makes no number: the count of turns grows -/
theorem mv_P_any {s i : Nat} {a6 a8 b6 b8 : Nat → Int32} (hL : mv_L a6 a8) (h : mv_P s i a6 a8) : mv_P s (i + 1) b6 b8 := by
  have := mv_rc_le hL
  unfold mv_P at h ⊢
  omega
theorem mv_W_s {i : Nat} {a1 : Nat → Int32} (h : mv_W i a1) : mv_W (i + 1) a1 := fun v h1 h2 => h v h1 (by omega)
theorem mv_s62 {s i : Nat} {a6 a8 : Nat → Int32} (hL : mv_L a6 a8) (h : mv_P s i a6 a8) (hi : i ≤ 65) : s ≤ 62 := by
  have := mv_rc_le hL
  unfold mv_P at h
  omega
theorem mv_s61 {s i : Nat} {a6 a8 : Nat → Int32} (hL : mv_L a6 a8) (h : mv_P s i a6 a8) (hi : i ≤ 64) : s ≤ 61 := by
  have := mv_rc_le hL
  unfold mv_P at h
  omega
theorem mv_nIinj {a b : Nat} (ha : a < 64) (hb : b < 64) (h : nI a = nI b) : a = b := (nI_eq (by omega) (by omega)).mp h
theorem mv_bitEq {m n : Nat} (hm : m < 64) (hn : n < 64) (h : mv_bt (mv_bit (nI m)) (nI n) = true) : m = n := by
  rw [mv_bt_bit hm hn] at h
  exact of_decide_eq_true h
theorem mv_nz {m : Nat} (h1 : 1 ≤ m) (h2 : m < 64) : nI m ≠ 0 := nI_ne0 h1 (by omega)
/-! ===== nothing but the turn's count ===== -/
theorem mv_I_s {s i : Nat} {c r : Int64} {a1 a2 a4 a5 a6 : Nat → Int32} {a7 : Nat → Int64} {a8 a9 a10 a11 : Nat → Int32} (h : mv_I s i c r a1 a2 a4 a5 a6 a7 a8 a9 a10 a11) : mv_I s (i + 1) c r a1 a2 a4 a5 a6 a7 a8 a9 a10 a11 := by
  obtain ⟨hL, hA, hB, hE, hF, hG, hW, hP⟩ := h
  exact ⟨hL, hA, hB, hE, hF, hG, mv_W_s hW, mv_P_any hL hP⟩
/-! ===== a number more: (t, q) runs with the number m ===== -/
theorem mv_A_new {s : Nat} {c r : Int64} {a6 a8 a9 b6 b8 : Nat → Int32} {t q m : Nat} (hA : mv_A s c r a6 a8 a9)
    (hn : ∀ t' k, mv_lv b6 b8 t' k → (t' = t ∧ k = q) ∨ (mv_lv a6 a8 t' k ∧ t' * 4 + k ≠ t * 4 + q))
    (hm1 : 1 ≤ m) (hm2 : m ≤ s + 1) (hs : s ≤ 61) (hc : mv_bt c (nI m) = false) (hr : mv_bt r (nI m) = false) : mv_A (s + 1) c (r ||| mv_bit (nI m)) b6 b8 (upd a9 (t * 4 + q) (nI m)) := by
  obtain ⟨h1, h2, h3, h4⟩ := hA
  have nw : ∀ t' k, mv_lv a6 a8 t' k → a9 (t' * 4 + k) ≠ nI m := by
    intro t' k hk e
    obtain ⟨m', g1, g2, g3, g4, g5⟩ := h3 t' k hk
    rw [← g3, e, hr] at g4
    exact absurd g4 (by decide)
  refine ⟨fun n hn' hb => ?_, fun n hn' hb => ?_, fun t' k hk => ?_, fun t' k t'' k' hk hk' e => ?_⟩
  · have := h1 n hn' hb; omega
  · rw [mv_bt_or, Bool.or_eq_true] at hb
    rcases hb with hb | hb
    · have := h2 n hn' hb; omega
    · have := mv_bitEq (by omega) hn' hb; omega
  · rcases hn t' k hk with ⟨rfl, rfl⟩ | ⟨hk', ne⟩
    · refine ⟨m, hm1, hm2, pk_us, ?_, hc⟩
      rw [mv_bt_or, mv_bt_self (by omega)]; simp
    · obtain ⟨m', g1, g2, g3, g4, g5⟩ := h3 t' k hk'
      refine ⟨m', g1, by omega, ?_, ?_, g5⟩
      · rw [pk_un ne]; exact g3
      · rw [mv_bt_or, g4]; rfl
  · rcases hn t' k hk with ⟨rfl, rfl⟩ | ⟨hk1, ne⟩
    · rcases hn t'' k' hk' with ⟨rfl, rfl⟩ | ⟨hk2, ne2⟩
      · exact ⟨rfl, rfl⟩
      · rw [pk_us, pk_un ne2] at e
        exact absurd e.symm (nw _ _ hk2)
    · rcases hn t'' k' hk' with ⟨rfl, rfl⟩ | ⟨hk2, ne2⟩
      · rw [pk_us, pk_un ne] at e
        exact absurd e (nw _ _ hk1)
      · rw [pk_un ne, pk_un ne2] at e
        exact h4 _ _ _ _ hk1 hk2 e
theorem mv_B_mono {s s' : Nat} {a1 a4 a5 : Nat → Int32} (h : mv_B s a1 a4 a5) (hs : s ≤ s') : mv_B s' a1 a4 a5 := by
  intro v hv hu
  obtain ⟨⟨m, h1, h2⟩, ⟨n, h3, h4⟩⟩ := h v hv hu
  exact ⟨⟨m, by omega, h2⟩, ⟨n, by omega, h4⟩⟩
theorem mv_F_new {a1 a2 a5 a6 a8 a9 a10 b6 b8 : Nat → Int32} {t q m : Nat} (hF : mv_F a1 a2 a5 a6 a8 a9 a10)
    (hn : ∀ t' k, mv_lv b6 b8 t' k → (t' = t ∧ k = q) ∨ (mv_lv a6 a8 t' k ∧ t' * 4 + k ≠ t * 4 + q))
    (hv : ∀ v, v < 96 → a1 v ≠ 0 → a5 v ≠ nI m) : mv_F a1 a2 a5 b6 b8 (upd a9 (t * 4 + q) (nI m)) (upd a10 (t * 4 + q) 0) := by
  intro v t' k h1 h2 h3 e
  rcases hn t' k h3 with ⟨rfl, rfl⟩ | ⟨hk, ne⟩
  · rw [pk_us] at e
    exact absurd e (hv v h1 h2)
  · rw [pk_un ne] at e
    rw [pk_un ne]
    exact hF v t' k h1 h2 hk e
/-- a transaction begins -/
theorem mv_I_begin {s i : Nat} {c r : Int64} {a1 a2 a4 a5 a6 : Nat → Int32} {a7 : Nat → Int64} {a8 a9 a10 a11 : Nat → Int32} {t m : Nat} (h : mv_I s i c r a1 a2 a4 a5 a6 a7 a8 a9 a10 a11) (ht : t < 4) (h6 : a6 t = 0)
    (hm1 : 1 ≤ m) (hm2 : m ≤ s + 1) (hs : s ≤ 61) (hc : mv_bt c (nI m) = false) (hr : mv_bt r (nI m) = false) (hv : ∀ v, v < 96 → a1 v ≠ 0 → a5 v ≠ nI m) :
    mv_I (s + 1) (i + 1) c (r ||| mv_bit (nI m)) a1 a2 a4 a5 (upd a6 t 1) (vp_updL a7 t c) (upd a8 t 0) (upd a9 (t * 4) (nI m)) (upd a10 (t * 4) 0) (upd a11 t 0) := by
  obtain ⟨hL, hA, hB, hE, hF, hG, hW, hP⟩ := h
  have l0 : mv_lev (upd a8 t 0) t = 0 := by rw [mv_lev_s]; exact sb_cl0
  have hn : ∀ t' k, mv_lv (upd a6 t 1) (upd a8 t 0) t' k → (t' = t ∧ k = 0) ∨ (mv_lv a6 a8 t' k ∧ t' * 4 + k ≠ t * 4 + 0) := by
    rintro t' k ⟨g1, g2, g3, g4⟩
    by_cases e : t' = t
    · subst e
      rw [l0] at g4
      exact Or.inl ⟨rfl, by omega⟩
    · rw [pk_un e] at g3
      rw [mv_lev_n e] at g4
      exact Or.inr ⟨⟨g1, g2, g3, g4⟩, by omega⟩
  have cbt : mv_cbo (upd a8 t 0) (upd a10 (t * 4) 0) t = 0 := by
    unfold mv_cbo
    rw [l0]
    show (0 : Int32) ||| upd a10 (t * 4) 0 (t * 4 + 0) = 0
    rw [Nat.add_zero, pk_us]; rfl
  have cbn : ∀ t', t' < 4 → t' ≠ t → a6 t' ≠ 0 → mv_cbo (upd a8 t 0) (upd a10 (t * 4) 0) t' = mv_cbo a8 a10 t' := by
    intro t' g1 g2 g3
    unfold mv_cbo
    have := (hL t' g1 g3).2
    rw [mv_lev_n g2, mv_cb_n _ (fun j hj => by omega)]
  refine ⟨fun t' g1 g2 => ?_, mv_A_new (q := 0) hA hn hm1 hm2 hs hc hr, mv_B_mono hB (by omega), fun v t' g1 g2 g3 g4 g5 g6 => ?_, mv_F_new (q := 0) hF hn hv, ⟨fun t' g1 g2 => ?_, fun t' t'' g1 g2 g3 g4 g5 => ?_⟩, mv_W_s hW, ?_⟩
  · by_cases e : t' = t
    · subst e
      rw [l0, pk_us]
      exact ⟨rfl, by omega⟩
    · rw [pk_un e] at g2
      rw [mv_lev_n e, pk_un e]
      exact hL t' g1 g2
  · by_cases e : t' = t
    · subst e
      rw [pk_uLs]
      exact Or.inl g6
    · rw [pk_un e] at g4
      rw [pk_uLn e, pk_un e]
      exact hE v t' g1 g2 g3 g4 g5 g6
  · by_cases e : t' = t
    · subst e
      rw [cbt]
      exact mv_dj_0 _
    · rw [pk_un e] at g2
      rw [cbn t' g1 e g2]
      exact hG.1 t' g1 g2
  · by_cases e : t' = t
    · subst e
      rw [cbt]
      exact mv_dj_0 _
    · by_cases e2 : t'' = t
      · subst e2
        rw [cbt]
        exact mv_dj_comm (mv_dj_0 _)
      · rw [pk_un e] at g4
        rw [pk_un e2] at g5
        rw [cbn t' g1 e g4, cbn t'' g2 e2 g5]
        exact hG.2 t' t'' g1 g2 g3 g4 g5
  · have e := mv_rc_upd (a6 := a6) (a8 := a8) (b6 := upd a6 t 1) (b8 := upd a8 t 0) ht (fun u g1 g2 => by unfold mv_w; rw [pk_un g2, mv_lev_n g2])
    have e1 : mv_w a6 a8 t = 0 := by unfold mv_w; rw [if_pos h6]
    have e2 : mv_w (upd a6 t 1) (upd a8 t 0) t = 1 := by unfold mv_w; rw [pk_us, l0, if_neg (by decide)]
    unfold mv_P at hP ⊢
    omega
/-- a savepoint -/
theorem mv_I_save {s i : Nat} {c r : Int64} {a1 a2 a4 a5 a6 : Nat → Int32} {a7 : Nat → Int64} {a8 a9 a10 a11 : Nat → Int32} {t l m : Nat} (h : mv_I s i c r a1 a2 a4 a5 a6 a7 a8 a9 a10 a11) (ht : t < 4) (h6 : a6 t ≠ 0) (hl : mv_lev a8 t = l) (hl3 : l < 3)
    (hm1 : 1 ≤ m) (hm2 : m ≤ s + 1) (hs : s ≤ 61) (hc : mv_bt c (nI m) = false) (hr : mv_bt r (nI m) = false) (hv : ∀ v, v < 96 → a1 v ≠ 0 → a5 v ≠ nI m) :
    mv_I (s + 1) (i + 1) c (r ||| mv_bit (nI m)) a1 a2 a4 a5 a6 a7 (upd a8 t (nI (l + 1))) (upd a9 (t * 4 + (l + 1)) (nI m)) (upd a10 (t * 4 + (l + 1)) 0) a11 := by
  obtain ⟨hL, hA, hB, hE, hF, hG, hW, hP⟩ := h
  have l1 : mv_lev (upd a8 t (nI (l + 1))) t = l + 1 := by rw [mv_lev_s]; exact nI_clamp (by omega)
  have hn : ∀ t' k, mv_lv a6 (upd a8 t (nI (l + 1))) t' k → (t' = t ∧ k = l + 1) ∨ (mv_lv a6 a8 t' k ∧ t' * 4 + k ≠ t * 4 + (l + 1)) := by
    rintro t' k ⟨g1, g2, g3, g4⟩
    by_cases e : t' = t
    · subst e
      rw [l1] at g4
      by_cases ek : k = l + 1
      · exact Or.inl ⟨rfl, ek⟩
      · exact Or.inr ⟨⟨g1, g2, g3, by omega⟩, by omega⟩
    · rw [mv_lev_n e] at g4
      exact Or.inr ⟨⟨g1, g2, g3, g4⟩, by omega⟩
  have cbn : ∀ t', t' < 4 → a6 t' ≠ 0 → mv_cbo (upd a8 t (nI (l + 1))) (upd a10 (t * 4 + (l + 1)) 0) t' = mv_cbo a8 a10 t' := by
    intro t' g1 g3
    unfold mv_cbo
    have := (hL t' g1 g3).2
    by_cases e : t' = t
    · subst e
      rw [l1, hl]
      show mv_cb (upd a10 (t' * 4 + (l + 1)) 0) t' (l + 1) ||| upd a10 (t' * 4 + (l + 1)) 0 (t' * 4 + (l + 1)) = _
      rw [pk_us, mv_or_0, mv_cb_n _ (fun j hj => by omega)]
    · rw [mv_lev_n e, mv_cb_n _ (fun j hj => by omega)]
  refine ⟨fun t' g1 g2 => ?_, mv_A_new hA hn hm1 hm2 hs hc hr, mv_B_mono hB (by omega), hE, mv_F_new hF hn hv, ⟨fun t' g1 g2 => ?_, fun t' t'' g1 g2 g3 g4 g5 => ?_⟩, mv_W_s hW, ?_⟩
  · by_cases e : t' = t
    · subst e
      rw [l1, pk_us]
      exact ⟨rfl, by omega⟩
    · rw [mv_lev_n e, pk_un e]
      exact hL t' g1 g2
  · rw [cbn t' g1 g2]
    exact hG.1 t' g1 g2
  · rw [cbn t' g1 g4, cbn t'' g2 g5]
    exact hG.2 t' t'' g1 g2 g3 g4 g5
  · have e := mv_rc_upd (a6 := a6) (a8 := a8) (b6 := a6) (b8 := upd a8 t (nI (l + 1))) ht (fun u g1 g2 => by unfold mv_w; rw [mv_lev_n g2])
    have e1 : mv_w a6 a8 t = l + 1 := by unfold mv_w; rw [if_neg h6, hl]
    have e2 : mv_w a6 (upd a8 t (nI (l + 1))) t = l + 2 := by unfold mv_w; rw [l1, if_neg h6]
    unfold mv_P at hP ⊢
    omega
/-- back to the savepoint before -/
theorem mv_I_back {s i : Nat} {c r : Int64} {a1 a2 a4 a5 a6 : Nat → Int32} {a7 : Nat → Int64} {a8 a9 a10 a11 : Nat → Int32} {t l : Nat} (h : mv_I s i c r a1 a2 a4 a5 a6 a7 a8 a9 a10 a11) (ht : t < 4) (h6 : a6 t ≠ 0) (hl : mv_lev a8 t = l + 1) (hl3 : l < 3) (hs : s ≤ 62) :
    mv_I s (i + 1) c (r &&& (mv_bit (a9 (t * 4 + (l + 1))) ^^^ (-1))) a1 a2 a4 a5 a6 a7 (upd a8 t (nI l)) a9 a10 a11 := by
  obtain ⟨hL, hA, hB, hE, hF, hG, hW, hP⟩ := h
  have l1 : mv_lev (upd a8 t (nI l)) t = l := by rw [mv_lev_s]; exact nI_clamp (by omega)
  have hn : ∀ t' k, mv_lv a6 (upd a8 t (nI l)) t' k → mv_lv a6 a8 t' k ∧ ¬ (t' = t ∧ k = l + 1) := by
    rintro t' k ⟨g1, g2, g3, g4⟩
    by_cases e : t' = t
    · subst e
      rw [l1] at g4
      exact ⟨⟨g1, g2, g3, by omega⟩, by omega⟩
    · rw [mv_lev_n e] at g4
      exact ⟨⟨g1, g2, g3, g4⟩, fun z => e z.1⟩
  have top : mv_lv a6 a8 t (l + 1) := ⟨ht, by omega, h6, by omega⟩
  obtain ⟨mt, b1, b2, b3, b4, b5⟩ := hA.2.2.1 t (l + 1) top
  have sub : ∀ t' k, mv_lv a6 (upd a8 t (nI l)) t' k → mv_lv a6 a8 t' k := fun t' k hk => (hn t' k hk).1
  have cbt : mv_cbo a8 a10 t = mv_cbo (upd a8 t (nI l)) a10 t ||| a10 (t * 4 + (l + 1)) := by
    unfold mv_cbo
    rw [l1, hl]
    rfl
  have cbn : ∀ t', t' ≠ t → mv_cbo (upd a8 t (nI l)) a10 t' = mv_cbo a8 a10 t' := by
    intro t' g
    unfold mv_cbo
    rw [mv_lev_n g]
  refine ⟨fun t' g1 g2 => ?_, ⟨hA.1, fun n hn' hb => ?_, fun t' k hk => ?_, fun t' k t'' k' hk hk' e => hA.2.2.2 _ _ _ _ (sub _ _ hk) (sub _ _ hk') e⟩, hB, hE, fun v t' k g1 g2 g3 g4 => hF v t' k g1 g2 (sub _ _ g3) g4, ⟨fun t' g1 g2 => ?_, fun t' t'' g1 g2 g3 g4 g5 => ?_⟩, mv_W_s hW, mv_P_any hL hP⟩
  · by_cases e : t' = t
    · subst e
      rw [l1, pk_us]
      exact ⟨rfl, by omega⟩
    · rw [mv_lev_n e, pk_un e]
      exact hL t' g1 g2
  · rw [mv_bt_andn, Bool.and_eq_true] at hb
    exact hA.2.1 n hn' hb.1
  · obtain ⟨hk1, hk2⟩ := hn t' k hk
    obtain ⟨m', g1, g2, g3, g4, g5⟩ := hA.2.2.1 t' k hk1
    refine ⟨m', g1, g2, g3, ?_, g5⟩
    rw [mv_bt_andn, g4, b3, mv_bt_bit (by omega) (by omega)]
    have ne : mt ≠ m' := by
      intro e
      subst e
      exact hk2 (hA.2.2.2 _ _ _ _ hk1 top (g3.trans b3.symm))
    simp [ne]
  · by_cases e : t' = t
    · subst e
      have := hG.1 t' g1 g2
      rw [cbt, mv_dj_or] at this
      exact this.1
    · rw [cbn t' e]
      exact hG.1 t' g1 g2
  · have key := hG.2 t' t'' g1 g2 g3 g4 g5
    by_cases e : t' = t
    · subst e
      rw [cbn t'' (fun z => g3 z.symm)]
      rw [cbt, mv_dj_or] at key
      exact key.1
    · by_cases e2 : t'' = t
      · subst e2
        rw [cbn t' e]
        have k2 := mv_dj_comm key
        rw [cbt, mv_dj_or] at k2
        exact mv_dj_comm k2.1
      · rw [cbn t' e, cbn t'' e2]
        exact key
/-! ===== ends ===== -/
theorem mv_lv_end {a6 a8 : Nat → Int32} {t : Nat} : ∀ t' k, mv_lv (upd a6 t 0) a8 t' k → mv_lv a6 a8 t' k ∧ t' ≠ t := by
  rintro t' k ⟨g1, g2, g3, g4⟩
  by_cases e : t' = t
  · subst e
    rw [pk_us] at g3
    exact absurd rfl g3
  · rw [pk_un e] at g3
    exact ⟨⟨g1, g2, g3, g4⟩, e⟩
/-- the bits of a transaction's own numbers -/
theorem mv_own {s : Nat} {c r : Int64} {a6 a8 a9 : Nat → Int32} {t n : Nat} (hL : mv_L a6 a8) (hA : mv_A s c r a6 a8 a9) (hs : s ≤ 62) (ht : t < 4) (h6 : a6 t ≠ 0) (hn : n < 64) (h : mv_bt (mv_oso a8 a9 t) (nI n) = true) :
    ∃ k, mv_lv a6 a8 t k ∧ a9 (t * 4 + k) = nI n := by
  obtain ⟨j, h1, h2⟩ := mv_os_bt _ h
  have hl := (hL t ht h6).2
  have hv : mv_lv a6 a8 t j := ⟨ht, by omega, h6, by omega⟩
  obtain ⟨m, b1, b2, b3, b4, b5⟩ := hA.2.2.1 t j hv
  rw [b3] at h2
  have e := mv_bitEq (by omega) hn h2
  subst e
  exact ⟨j, hv, b3⟩
theorem mv_I_end {s i : Nat} {c r : Int64} {a1 a2 a4 a5 a6 : Nat → Int32} {a7 : Nat → Int64} {a8 a9 a10 a11 : Nat → Int32} {t : Nat} (h : mv_I s i c r a1 a2 a4 a5 a6 a7 a8 a9 a10 a11) (ht : t < 4) (h6 : a6 t ≠ 0) (hs : s ≤ 62) :
    mv_I s (i + 1) c (r &&& (mv_oso a8 a9 t ^^^ (-1))) a1 a2 a4 a5 (upd a6 t 0) a7 a8 a9 a10 a11 := by
  obtain ⟨hL, hA, hB, hE, hF, hG, hW, hP⟩ := h
  have op : ∀ t', upd a6 t 0 t' ≠ 0 → a6 t' ≠ 0 ∧ t' ≠ t := by
    intro t' g
    by_cases e : t' = t
    · subst e
      rw [pk_us] at g
      exact absurd rfl g
    · rw [pk_un e] at g
      exact ⟨g, e⟩
  have sub : ∀ t' k, mv_lv (upd a6 t 0) a8 t' k → mv_lv a6 a8 t' k := fun t' k hk => (mv_lv_end t' k hk).1
  refine ⟨fun t' g1 g2 => hL t' g1 (op t' g2).1, ⟨hA.1, fun n hn' hb => ?_, fun t' k hk => ?_, fun t' k t'' k' hk hk' e => hA.2.2.2 _ _ _ _ (sub _ _ hk) (sub _ _ hk') e⟩, hB, fun v t' g1 g2 g3 g4 => hE v t' g1 g2 g3 (op t' g4).1, fun v t' k g1 g2 g3 g4 => hF v t' k g1 g2 (sub _ _ g3) g4, ⟨fun t' g1 g2 => hG.1 t' g1 (op t' g2).1, fun t' t'' g1 g2 g3 g4 g5 => hG.2 t' t'' g1 g2 g3 (op t' g4).1 (op t'' g5).1⟩, mv_W_s hW, mv_P_any hL hP⟩
  · rw [mv_bt_andn, Bool.and_eq_true] at hb
    exact hA.2.1 n hn' hb.1
  · obtain ⟨hk1, hk2⟩ := mv_lv_end t' k hk
    obtain ⟨m', g1, g2, g3, g4, g5⟩ := hA.2.2.1 t' k hk1
    refine ⟨m', g1, g2, g3, ?_, g5⟩
    rw [mv_bt_andn, g4]
    cases hb : mv_bt (mv_oso a8 a9 t) (nI m')
    · rfl
    · obtain ⟨k', hk', e⟩ := mv_own hL hA hs ht h6 (by omega) hb
      exact absurd (hA.2.2.2 _ _ _ _ hk1 hk' (g3.trans e.symm)).1 hk2
theorem mv_I_commit {s i : Nat} {c r : Int64} {a1 a2 a4 a5 a6 : Nat → Int32} {a7 : Nat → Int64} {a8 a9 a10 a11 : Nat → Int32} {b11 : Nat → Int32} {t : Nat} (h : mv_I s i c r a1 a2 a4 a5 a6 a7 a8 a9 a10 a11) (ht : t < 4) (h6 : a6 t ≠ 0) (hs : s ≤ 62)
    (hb : ∀ u, u < 4 → b11 u = a11 u ||| mv_cbo a8 a10 t) :
    mv_I s (i + 1) (c ||| mv_oso a8 a9 t) (r &&& (mv_oso a8 a9 t ^^^ (-1))) a1 a2 a4 a5 (upd a6 t 0) a7 a8 a9 a10 b11 := by
  obtain ⟨hL', hA', hB', hE', hF', hG', hW', hP'⟩ := mv_I_end h ht h6 hs
  obtain ⟨hL, hA, hB, hE, hF, hG, hW, hP⟩ := h
  refine ⟨hL', ⟨fun n hn' hb => ?_, hA'.2.1, fun t' k hk => ?_, hA'.2.2.2⟩, hB', fun v t' g1 g2 g3 g4 g5 g6 => ?_, hF', hG', hW', hP'⟩
  · rw [mv_bt_or, Bool.or_eq_true] at hb
    rcases hb with hb | hb
    · exact hA.1 n hn' hb
    · obtain ⟨k', hk', e⟩ := mv_own hL hA hs ht h6 hn' hb
      obtain ⟨m', g1, g2, g3, g4, g5⟩ := hA.2.2.1 t k' hk'
      have := mv_nIinj (by omega) hn' (g3.symm.trans e)
      omega
  · obtain ⟨m', g1, g2, g3, g4, g5⟩ := hA'.2.2.1 t' k hk
    refine ⟨m', g1, g2, g3, g4, ?_⟩
    rw [mv_bt_or, g5]
    cases hb : mv_bt (mv_oso a8 a9 t) (nI m')
    · rfl
    · obtain ⟨hk1, hk2⟩ := mv_lv_end t' k hk
      obtain ⟨k', hk', e⟩ := mv_own hL hA hs ht h6 (by omega) hb
      exact absurd (hA.2.2.2 _ _ _ _ hk1 hk' (g3.trans e.symm)).1 hk2
  · rw [hb t' g3, mv_rb_or]
    rw [mv_bt_or, Bool.or_eq_true] at g6
    rcases g6 with g6 | g6
    · rcases hE' v t' g1 g2 g3 g4 g5 g6 with z | z
      · exact Or.inl z
      · exact Or.inr (by rw [z]; rfl)
    · obtain ⟨n, hn1, hn2⟩ := (hB v g1 g2).2
      rw [hn2] at g6
      obtain ⟨k', hk', e⟩ := mv_own hL hA hs ht h6 (by omega) g6
      have := hF v t k' g1 g2 hk' (hn2.trans e.symm)
      refine Or.inr ?_
      have g := mv_cb_rb (mv_lev a8 t + 1) k' (by have := hk'.2.2.2; omega) this
      unfold mv_cbo
      rw [g, Bool.or_true]
theorem mv_I_crash {s i : Nat} {c r : Int64} {a1 a2 a4 a5 a6 : Nat → Int32} {a7 : Nat → Int64} {a8 a9 a10 a11 : Nat → Int32} {b6 : Nat → Int32} (h : mv_I s i c r a1 a2 a4 a5 a6 a7 a8 a9 a10 a11) (hb : ∀ t, t < 4 → b6 t = 0) :
    mv_I s (i + 1) c 0 a1 a2 a4 a5 b6 a7 a8 a9 a10 a11 := by
  obtain ⟨hL, hA, hB, hE, hF, hG, hW, hP⟩ := h
  refine ⟨fun t g1 g2 => absurd (hb t g1) g2, ⟨hA.1, fun n hn' hb' => ?_, fun t' k hk => absurd (hb t' hk.1) hk.2.2.1, fun t' k t'' k' hk hk' e => absurd (hb t' hk.1) hk.2.2.1⟩, hB, fun v t g1 g2 g3 g4 => absurd (hb t g3) g4, fun v t' k g1 g2 hk => absurd (hb t' hk.1) hk.2.2.1, ⟨fun t g1 g2 => absurd (hb t g1) g2, fun t t' g1 g2 g3 g4 => absurd (hb t g1) g4⟩, mv_W_s hW, mv_P_any hL hP⟩
  rw [mv_bt_0] at hb'
  exact absurd hb' (by decide)
end
section
/-! ===== a row is changed: the three steps, in plain terms ===== -/
/-- the row is noted -/
theorem mv_cbo_t {a8 a10 : Nat → Int32} {t l : Nat} {y : Int32} (hl : mv_lev a8 t = l) : mv_cbo a8 (upd a10 (t * 4 + l) (a10 (t * 4 + l) ||| y)) t = mv_cbo a8 a10 t ||| y := by
  unfold mv_cbo
  rw [hl]
  show mv_cb (upd a10 (t * 4 + l) (a10 (t * 4 + l) ||| y)) t l ||| upd a10 (t * 4 + l) (a10 (t * 4 + l) ||| y) (t * 4 + l) = (mv_cb a10 t l ||| a10 (t * 4 + l)) ||| y
  rw [pk_us, mv_cb_n _ (fun j hj => by omega), mv_or_assoc]
theorem mv_I_touch {s i : Nat} {c r : Int64} {a1 a2 a4 a5 a6 : Nat → Int32} {a7 : Nat → Int64} {a8 a9 a10 a11 : Nat → Int32} {t l j : Nat} (h : mv_I s i c r a1 a2 a4 a5 a6 a7 a8 a9 a10 a11) (ht : t < 4) (h6 : a6 t ≠ 0) (hl : mv_lev a8 t = l) (hj : j < 8)
    (hf : ∀ u, u < 4 → u ≠ t → a6 u ≠ 0 → mv_rb (mv_cbo a8 a10 u) (nI j) = false) :
    mv_I s i c r a1 a2 a4 a5 a6 a7 a8 a9 (upd a10 (t * 4 + l) (a10 (t * 4 + l) ||| ((1 : Int32) <<< (nI j &&& 31)))) a11 := by
  obtain ⟨hL, hA, hB, hE, hF, hG, hW, hP⟩ := h
  have hl3 := (hL t ht h6).2
  have cbt := mv_cbo_t (a10 := a10) (y := (1 : Int32) <<< (nI j &&& 31)) hl
  have cbn : ∀ t', t' < 4 → t' ≠ t → a6 t' ≠ 0 → mv_cbo a8 (upd a10 (t * 4 + l) (a10 (t * 4 + l) ||| ((1 : Int32) <<< (nI j &&& 31)))) t' = mv_cbo a8 a10 t' := by
    intro t' g1 g2 g3
    unfold mv_cbo
    have := (hL t' g1 g3).2
    rw [mv_cb_n _ (fun j hj => by omega)]
  refine ⟨hL, hA, hB, hE, fun v t' k g1 g2 g3 g4 => ?_, ⟨fun t' g1 g2 => ?_, fun t' t'' g1 g2 g3 g4 g5 => ?_⟩, hW, hP⟩
  · have := hF v t' k g1 g2 g3 g4
    by_cases e : t' * 4 + k = t * 4 + l
    · rw [e] at this ⊢
      rw [pk_us, mv_rb_or, this]; rfl
    · rw [pk_un e]; exact this
  · by_cases e : t' = t
    · subst e
      rw [cbt, mv_dj_or]
      exact ⟨hG.1 t' g1 g2, mv_shl_m j hj⟩
    · rw [cbn t' g1 e g2]
      exact hG.1 t' g1 g2
  · have key := hG.2 t' t'' g1 g2 g3 g4 g5
    by_cases e : t' = t
    · subst e
      have e2 : t'' ≠ t' := fun z => g3 z.symm
      rw [cbt, cbn t'' g2 e2 g5, mv_dj_or]
      exact ⟨key, mv_shl_dj hj (hf t'' g2 e2 g5)⟩
    · by_cases e2 : t'' = t
      · subst e2
        rw [cbt, cbn t' g1 e g4]
        apply mv_dj_comm
        rw [mv_dj_or]
        exact ⟨mv_dj_comm key, mv_shl_dj hj (hf t' g1 e g4)⟩
      · rw [cbn t' g1 e g4, cbn t'' g2 e2 g5]
        exact key
/-- a version is ended by (t, l) -/
theorem mv_I_endv {s i : Nat} {c r : Int64} {a1 a2 a4 a5 a6 : Nat → Int32} {a7 : Nat → Int64} {a8 a9 a10 a11 : Nat → Int32} {t l v : Nat} (h : mv_I s i c r a1 a2 a4 a5 a6 a7 a8 a9 a10 a11) (hk : mv_lv a6 a8 t l) (hs : s ≤ 62) (hv : v < 96) (hr : mv_rb (a10 (t * 4 + l)) (a2 v) = true) :
    mv_I s i c r a1 a2 a4 (upd a5 v (a9 (t * 4 + l))) a6 a7 a8 a9 a10 a11 := by
  obtain ⟨hL, hA, hB, hE, hF, hG, hW, hP⟩ := h
  obtain ⟨m, b1, b2, b3, b4, b5⟩ := hA.2.2.1 t l hk
  refine ⟨hL, hA, fun w g1 g2 => ?_, fun w t' g1 g2 g3 g4 g5 g6 => ?_, fun w t' k g1 g2 g3 g4 => ?_, hG, hW, hP⟩
  · by_cases e : w = v
    · subst e
      rw [pk_us]
      exact ⟨(hB w g1 g2).1, m, b2, b3⟩
    · rw [pk_un e]
      exact hB w g1 g2
  · by_cases e : w = v
    · subst e
      rw [pk_us, b3, b5] at g6
      exact absurd g6 (by decide)
    · rw [pk_un e] at g5 g6 ⊢
      exact hE w t' g1 g2 g3 g4 g5 g6
  · by_cases e : w = v
    · subst e
      rw [pk_us] at g4
      obtain ⟨e1, e2⟩ := hA.2.2.2 _ _ _ _ hk g3 g4
      subst e1 e2
      exact hr
    · rw [pk_un e] at g4
      exact hF w t' k g1 g2 g3 g4
/-- a version is made by (t, l) -/
theorem mv_I_newv {s i : Nat} {c r : Int64} {a1 a2 a4 a5 a6 : Nat → Int32} {a7 : Nat → Int64} {a8 a9 a10 a11 : Nat → Int32} {t l v : Nat} {x : Int32} (h : mv_I s i c r a1 a2 a4 a5 a6 a7 a8 a9 a10 a11) (hk : mv_lv a6 a8 t l) (hs : s ≤ 62) (hv : v < 96) (hi : v ≤ i) :
    mv_I s (i + 1) c r (upd a1 v 1) (upd a2 v x) (upd a4 v (a9 (t * 4 + l))) (upd a5 v 0) a6 a7 a8 a9 a10 a11 := by
  obtain ⟨hL, hA, hB, hE, hF, hG, hW, hP⟩ := h
  obtain ⟨m, b1, b2, b3, b4, b5⟩ := hA.2.2.1 t l hk
  refine ⟨hL, hA, fun w g1 g2 => ?_, fun w t' g1 g2 g3 g4 g5 g6 => ?_, fun w t' k g1 g2 g3 g4 => ?_, hG, fun w g1 g2 => ?_, mv_P_any hL hP⟩
  · by_cases e : w = v
    · subst e
      rw [pk_us, pk_us]
      exact ⟨⟨m, b2, b3⟩, ⟨0, by omega, rfl⟩⟩
    · rw [pk_un e] at g2
      rw [pk_un e, pk_un e]
      exact hB w g1 g2
  · by_cases e : w = v
    · subst e
      rw [pk_us] at g5
      exact absurd rfl g5
    · rw [pk_un e] at g2 g5 g6
      rw [pk_un e, pk_un e]
      exact hE w t' g1 g2 g3 g4 g5 g6
  · by_cases e : w = v
    · subst e
      obtain ⟨m', d1, d2, d3, d4, d5⟩ := hA.2.2.1 t' k g3
      rw [pk_us, d3] at g4
      exact absurd g4.symm (mv_nz d1 (by omega))
    · rw [pk_un e] at g2 g4
      rw [pk_un e]
      exact hF w t' k g1 g2 g3 g4
  · rw [pk_un (by omega)]
    exact hW w g1 (by omega)
/-! what committed readers see stays -/
theorem mv_vi_endv {c : Int64} {a1 a2 a4 a5 : Nat → Int32} {v m : Nat} (hm1 : 1 ≤ m) (hm2 : m < 64) (hc : mv_bt c (nI m) = false) (h : a5 v = 0 ∨ mv_bt c (a5 v) = false) (x : Int32) (w : Nat) :
    mv_vi a1 a2 a4 (upd a5 v (nI m)) c x w = mv_vi a1 a2 a4 a5 c x w := by
  by_cases e : w = v
  · subst e
    have hn := mv_nz hm1 hm2
    unfold mv_vi mv_se
    rw [pk_us]
    have e1 : (decide (nI m = 0) || !mv_in c (nI m)) = true := by simp [mv_in, hn, hc]
    have e2 : (decide (a5 w = 0) || !mv_in c (a5 w)) = true := by
      by_cases z : a5 w = 0
      · simp [z]
      · simp [mv_in, z, h.resolve_left z]
    rw [e1, e2]
  · unfold mv_vi mv_se
    rw [pk_un e]
theorem mv_vi_newv {c : Int64} {a1 a2 a4 a5 : Nat → Int32} {v m : Nat} {y : Int32} (hm1 : 1 ≤ m) (hm2 : m < 64) (hc : mv_bt c (nI m) = false) (h : a1 v = 0) (x : Int32) (w : Nat) :
    mv_vi (upd a1 v 1) (upd a2 v y) (upd a4 v (nI m)) (upd a5 v 0) c x w = mv_vi a1 a2 a4 a5 c x w := by
  by_cases e : w = v
  · subst e
    have hn := mv_nz hm1 hm2
    unfold mv_vi mv_se
    rw [pk_us, pk_us, pk_us, pk_us, h]
    simp [mv_in, hn, hc]
  · unfold mv_vi mv_se
    rw [pk_un e, pk_un e, pk_un e, pk_un e]
/-- what t sees of a row that isn't overtaken has no committed end -/
theorem mv_seen {c : Int64} {a1 a2 a4 a5 a6 : Nat → Int32} {a7 : Nat → Int64} {a8 a9 a11 : Nat → Int32} {t v : Nat} {x : Int32} (hE : mv_E c a1 a2 a5 a6 a7 a11) (ht : t < 4) (h6 : a6 t ≠ 0) (hv : v < 96)
    (h : mv_vi a1 a2 a4 a5 (a7 t ||| mv_oso a8 a9 t) x v = true) (ho : mv_rb (a11 t) x = false) : a1 v ≠ 0 ∧ a2 v = x ∧ (a5 v = 0 ∨ mv_bt c (a5 v) = false) := by
  unfold mv_vi mv_se at h
  rw [Bool.and_eq_true, Bool.and_eq_true, Bool.and_eq_true, Bool.or_eq_true] at h
  obtain ⟨h1, h2, h3, h4⟩ := h
  have g1 : a1 v ≠ 0 := by simpa using h1
  have g2 : a2 v = x := of_decide_eq_true h2
  refine ⟨g1, g2, ?_⟩
  rcases h4 with h4 | h4
  · exact Or.inl (of_decide_eq_true h4)
  · by_cases z : a5 v = 0
    · exact Or.inl z
    · refine Or.inr (Bool.eq_false_iff.mpr (fun hb => ?_))
      rcases hE v t hv g1 ht h6 z hb with q | q
      · have : mv_in (a7 t ||| mv_oso a8 a9 t) (a5 v) = true := by
          unfold mv_in
          rw [mv_bt_or, q]; simp
        rw [this] at h4
        exact absurd h4 (by decide)
      · rw [g2, ho] at q
        exact absurd q (by decide)
/-! ===== the writing methods ===== -/
section
variable {c r : Int64} {a1 a2 a3 a4 a5 a6 : Nat → Int32} {a7 : Nat → Int64} {a8 a9 a10 a11 a12 : Nat → Int32}
theorem mv_curw {post : Int32 → Prop} {t l : Nat} (ht : t < 4) (h8 : a8 t = nI l) (h : post (nI (t * 4 + l))) : wpX_current post (c, r, a1, a2, a3, a4, a5, a6, a7, a8, a9, a10, a11, a12) (nI t) := by
  refine ⟨vp_in_nI ht (by decide), ?_⟩
  rw [nI_clamp (show t < 2 ^ 31 by omega), h8, mv_ix]
  exact h
theorem mv_fvw {post : Int32 → Prop} {i : Nat} (hW : mv_W i a1) (hi : i ≤ 64) (H : ∀ v, v < 96 → v ≤ i → a1 v = 0 → post (nI v)) : wpX_freeVersion post (c, r, a1, a2, a3, a4, a5, a6, a7, a8, a9, a10, a11, a12) := by
  have K : ∀ k q, q + k = i → wX_freeVersion_2 post c r a1 a2 a3 a4 a5 a6 a7 a8 a9 a10 a11 a12 (k + 1) (nI q) := by
    intro k
    induction k with
    | zero =>
      intro q hq
      obtain rfl : q = i := by omega
      refine br_f (nI_ge (b := 96) (by omega) (by decide)) ⟨vp_in_nI (by omega) (by decide), ?_⟩
      rw [nI_clamp (show q < 2 ^ 31 by omega)]
      exact br_t (hW q (by omega) (by omega)) (H q (by omega) (by omega) (hW q (by omega) (by omega)))
    | succ k ih =>
      intro q hq
      refine br_f (nI_ge (b := 96) (by omega) (by decide)) ⟨vp_in_nI (by omega) (by decide), ?_⟩
      rw [nI_clamp (show q < 2 ^ 31 by omega)]
      exact br_c (fun g => H q (by omega) (by omega) g) (fun _ => nm_r (nI_1 q) (ih (q + 1) (by omega)))
  exact ⟨i + 1, K i 0 (by omega)⟩
theorem mv_mkw {post : St1 → Prop} {i : Nat} {x1 x2 x3 : Int32} (hW : mv_W i a1) (hi : i ≤ 64)
    (H : ∀ v, v < 96 → v ≤ i → a1 v = 0 → post (c, r, upd a1 v 1, upd a2 v x1, upd a3 v x2, upd a4 v x3, upd a5 v 0, a6, a7, a8, a9, a10, a11, a12)) : wpX_makeVersion post (c, r, a1, a2, a3, a4, a5, a6, a7, a8, a9, a10, a11, a12) x1 x2 x3 := by
  unfold wpX_makeVersion
  refine mv_fvw hW hi (fun v h1 h2 h3 => br_t (nI_pos' (by omega)) ?_)
  have hv : vp_in (nI v) 96 := vp_in_nI h1 (by decide)
  unfold wX_makeVersion_21
  rw [nI_clamp (show v < 2 ^ 31 by omega)]
  exact ⟨hv, nm_e ⟨hv, nm_e ⟨hv, nm_e ⟨hv, nm_e ⟨hv, nm_e (H v h1 h2 h3)⟩⟩⟩⟩⟩
theorem mv_writew {post : St1 → Prop} {s i t j : Nat} {o x : Int32} (hI : mv_I s i c r a1 a2 a4 a5 a6 a7 a8 a9 a10 a11) (hi : i ≤ 64) (hs : s ≤ 62) (ht : t < 4) (h6 : a6 t ≠ 0) (hj : j < 8)
    (hf : ∀ u, u < 4 → u ≠ t → a6 u ≠ 0 → mv_rb (mv_cbo a8 a10 u) (nI j) = false)
    (ho : o = -1 ∨ ∃ v, v < 96 ∧ o = nI v ∧ a1 v ≠ 0 ∧ a2 v = nI j ∧ (a5 v = 0 ∨ mv_bt c (a5 v) = false))
    (H : ∀ b1 b2 b3 b4 b5 b10, mv_I s (i + 1) c r b1 b2 b4 b5 a6 a7 a8 a9 b10 a11 → mv_rows c b1 b2 b4 b5 = mv_rows c a1 a2 a4 a5 → mv_cbo a8 b10 t = mv_cbo a8 a10 t ||| ((1 : Int32) <<< (nI j &&& 31)) →
      post (c, r, b1, b2, b3, b4, b5, a6, a7, a8, a9, b10, a11, a12)) : wpX_write post (c, r, a1, a2, a3, a4, a5, a6, a7, a8, a9, a10, a11, a12) (nI t) (nI j) o x := by
  obtain ⟨h8, hl⟩ := hI.1 t ht h6
  have hlv : mv_lv a6 a8 t (mv_lev a8 t) := ⟨ht, by omega, h6, Nat.le_refl _⟩
  have hT := mv_I_touch hI ht h6 rfl hj hf
  have hC := mv_cbo_t (a8 := a8) (a10 := a10) (t := t) (y := (1 : Int32) <<< (nI j &&& 31)) rfl
  obtain ⟨m, b1, b2, b3, b4, b5⟩ := hI.2.1.2.2.1 t _ hlv
  generalize mv_lev a8 t = l at h8 hl hlv hT hC b3
  have hp : vp_in (nI (t * 4 + l)) 16 := vp_in_nI (by omega) (by decide)
  have ep : (nI (t * 4 + l)).toNatClampNeg = t * 4 + l := nI_clamp (by omega)
  unfold wpX_write
  refine mv_curw ht h8 ⟨hp, ?_⟩
  rw [ep, b3]
  refine nm_e (mv_curw ht h8 (mv_curw ht h8 ⟨hp, hp, ?_⟩))
  rw [ep]
  refine nm_e ?_
  have hrb : mv_rb (upd a10 (t * 4 + l) (a10 (t * 4 + l) ||| ((1 : Int32) <<< (nI j &&& 31))) (t * 4 + l)) (nI j) = true := by
    rw [pk_us, mv_rb_or, mv_rb_shl j hj, Bool.or_true]
  generalize upd a10 (t * 4 + l) (a10 (t * 4 + l) ||| ((1 : Int32) <<< (nI j &&& 31))) = b10 at hT hC hrb ⊢
  have key : ∀ c5, mv_I s i c r a1 a2 a4 c5 a6 a7 a8 a9 b10 a11 → mv_rows c a1 a2 a4 c5 = mv_rows c a1 a2 a4 a5 → wX_write_74 post (nI j) x (nI m) c r a1 a2 a3 a4 c5 a6 a7 a8 a9 b10 a11 a12 := by
    intro c5 hI5 hR5
    unfold wX_write_74
    refine mv_mkw hI5.2.2.2.2.2.2.1 hi (fun v g1 g2 g3 => ?_)
    have hN := mv_I_newv (x := nI j) hI5 hlv hs g1 g2
    rw [b3] at hN
    exact H _ _ _ _ _ _ hN ((mv_rows_congr (fun y w _ => mv_vi_newv b1 (by omega) b5 g3 y w)).trans hR5) hC
  rcases ho with rfl | ⟨v, v1, rfl, v2, v3, v4⟩
  · exact br_t (by decide) (br_t (by decide) (key a5 hT rfl))
  · have hv : vp_in (nI v) 96 := vp_in_nI v1 (by decide)
    refine br_f (nI_pos (by omega)) ⟨hv, ?_⟩
    unfold wX_write_62
    rw [nI_clamp (show v < 2 ^ 31 by omega)]
    refine br_c (fun g => ⟨hv, nm_e (H _ _ _ _ _ _ (mv_I_s hT) rfl hC)⟩) (fun g => br_f (nI_pos (by omega)) ⟨hv, nm_e ?_⟩)
    have hD := mv_I_endv (v := v) hT hlv hs v1 (by rw [v3]; exact hrb)
    rw [b3] at hD
    exact key _ hD (mv_rows_congr (fun y w _ => mv_vi_endv b1 (by omega) b5 v4 y w))
/-- what a change of row y by x must leave -/
def mv_chg (s i : Nat) (u : St1) (x y ans : Int32) (u' : St1) : Prop :=
  mv_IU s (i + 1) u' ∧ mv_RU u' = mv_RU u ∧ (¬ ans < 0 → mv_CU u' x = mv_CU u x ||| ((1 : Int32) <<< ((y &&& 7) &&& 31)))
theorem mv_y7 : ∀ j, j < 8 → nI j &&& 7 = nI j := by decide +kernel
theorem mv_chg_no {s i : Nat} {x y ans : Int32} (hI : mv_I s i c r a1 a2 a4 a5 a6 a7 a8 a9 a10 a11) (h : ans < 0) : mv_chg s i (c, r, a1, a2, a3, a4, a5, a6, a7, a8, a9, a10, a11, a12) x y ans (c, r, a1, a2, a3, a4, a5, a6, a7, a8, a9, a10, a11, a12) := ⟨mv_I_s hI, rfl, fun z => absurd h z⟩
theorem mv_putw {post : Int32 → St1 → Prop} {s i : Nat} {x y z : Int32} (hI : mv_I s i c r a1 a2 a4 a5 a6 a7 a8 a9 a10 a11) (hi : i ≤ 64) (H : ∀ ans u, mv_chg s i (c, r, a1, a2, a3, a4, a5, a6, a7, a8, a9, a10, a11, a12) x y ans u → post ans u) : wpX_put post (c, r, a1, a2, a3, a4, a5, a6, a7, a8, a9, a10, a11, a12) x y z := by
  unfold wpX_put
  have hL := hI.1
  have hs : s ≤ 62 := mv_s62 hL hI.2.2.2.2.2.2.2 (by omega)
  have no : ∀ ans, ans < 0 → post ans (c, r, a1, a2, a3, a4, a5, a6, a7, a8, a9, a10, a11, a12) := fun ans h => H ans _ (mv_chg_no hI h)
  rcases mv_x4 x with hx | ⟨t, ht, rfl⟩
  · exact mv_rr_bad hx (br_f (by decide) (no _ (by decide)))
  · by_cases h6 : a6 t = 0
    · exact mv_rr_cl ht h6 (br_f (by decide) (no _ (by decide)))
    · rcases mv_x8 y with hy | ⟨j, hj, rfl⟩
      · exact mv_rr_row ht h6 hy (br_f (by decide) (no _ (by decide)))
      · refine mv_rr_op ht h6 hj (br_t (by decide) (mv_blw hL ht (fun q hq => br_f (mv_nle.mpr hq) (no q hq)) (fun hf ho => br_t (by decide) (mv_vow hL ht h6 (mv_writew hI hi hs ht h6 hj hf ?_ ?_)))))
        · rcases mv_V_c (mv_vi a1 a2 a4 a5 (a7 t ||| mv_oso a8 a9 t) (nI j)) with ⟨e, _⟩ | ⟨v, v1, v2, e⟩
          · exact Or.inl e
          · exact Or.inr ⟨v, v1, e, mv_seen hI.2.2.2.1 ht h6 v1 v2 ho⟩
        · intro b1 b2 b3 b4 b5 b10 g1 g2 g3
          have K : ∀ ans, mv_chg s i (c, r, a1, a2, a3, a4, a5, a6, a7, a8, a9, a10, a11, a12) (nI t) (nI j) ans (c, r, b1, b2, b3, b4, b5, a6, a7, a8, a9, b10, a11, a12) := by
            intro ans
            refine ⟨g1, g2, fun _ => ?_⟩
            show mv_ch a6 a8 b10 (nI t) = mv_ch a6 a8 a10 (nI t) ||| _
            rw [mv_ch_op ht h6, mv_ch_op ht h6, mv_y7 j hj, g3]
          exact br_c (fun _ => H _ _ (K _)) (fun _ => H _ _ (K _))
theorem mv_addw {post : Int32 → St1 → Prop} {s i : Nat} {x y z : Int32} (hI : mv_I s i c r a1 a2 a4 a5 a6 a7 a8 a9 a10 a11) (hi : i ≤ 64) (H : ∀ ans u, mv_chg s i (c, r, a1, a2, a3, a4, a5, a6, a7, a8, a9, a10, a11, a12) x y ans u → post ans u) : wpX_add post (c, r, a1, a2, a3, a4, a5, a6, a7, a8, a9, a10, a11, a12) x y z := by
  unfold wpX_add
  have hL := hI.1
  have hs : s ≤ 62 := mv_s62 hL hI.2.2.2.2.2.2.2 (by omega)
  have no : ∀ ans, ans < 0 → post ans (c, r, a1, a2, a3, a4, a5, a6, a7, a8, a9, a10, a11, a12) := fun ans h => H ans _ (mv_chg_no hI h)
  rcases mv_x4 x with hx | ⟨t, ht, rfl⟩
  · exact mv_rr_bad hx (br_f (by decide) (no _ (by decide)))
  · by_cases h6 : a6 t = 0
    · exact mv_rr_cl ht h6 (br_f (by decide) (no _ (by decide)))
    · rcases mv_x8 y with hy | ⟨j, hj, rfl⟩
      · exact mv_rr_row ht h6 hy (br_f (by decide) (no _ (by decide)))
      · refine mv_rr_op ht h6 hj (br_t (by decide) (mv_vow hL ht h6 (br_c (fun hv => mv_blw hL ht (fun q hq => br_f (mv_nle.mpr hq) (no q hq)) (fun hf ho => br_t (by decide) ⟨mv_V_in hv, mv_writew hI hi hs ht h6 hj hf ?_ ?_⟩)) (fun _ => no _ (by decide)))))
        · rcases mv_V_c (mv_vi a1 a2 a4 a5 (a7 t ||| mv_oso a8 a9 t) (nI j)) with ⟨e, _⟩ | ⟨v, v1, v2, e⟩
          · exact Or.inl e
          · exact Or.inr ⟨v, v1, e, mv_seen hI.2.2.2.1 ht h6 v1 v2 ho⟩
        · intro b1 b2 b3 b4 b5 b10 g1 g2 g3
          refine H _ _ ⟨g1, g2, fun _ => ?_⟩
          show mv_ch a6 a8 b10 (nI t) = mv_ch a6 a8 a10 (nI t) ||| _
          rw [mv_ch_op ht h6, mv_ch_op ht h6, mv_y7 j hj, g3]
theorem mv_dropw {post : Int32 → St1 → Prop} {s i : Nat} {x y : Int32} (hI : mv_I s i c r a1 a2 a4 a5 a6 a7 a8 a9 a10 a11) (hi : i ≤ 64) (H : ∀ ans u, mv_chg s i (c, r, a1, a2, a3, a4, a5, a6, a7, a8, a9, a10, a11, a12) x y ans u → post ans u) : wpX_drop post (c, r, a1, a2, a3, a4, a5, a6, a7, a8, a9, a10, a11, a12) x y := by
  unfold wpX_drop
  have hL := hI.1
  have hs : s ≤ 62 := mv_s62 hL hI.2.2.2.2.2.2.2 (by omega)
  have no : ∀ ans, ans < 0 → post ans (c, r, a1, a2, a3, a4, a5, a6, a7, a8, a9, a10, a11, a12) := fun ans h => H ans _ (mv_chg_no hI h)
  rcases mv_x4 x with hx | ⟨t, ht, rfl⟩
  · exact mv_rr_bad hx (br_f (by decide) (no _ (by decide)))
  · by_cases h6 : a6 t = 0
    · exact mv_rr_cl ht h6 (br_f (by decide) (no _ (by decide)))
    · rcases mv_x8 y with hy | ⟨j, hj, rfl⟩
      · exact mv_rr_row ht h6 hy (br_f (by decide) (no _ (by decide)))
      · refine mv_rr_op ht h6 hj (br_t (by decide) (mv_vow hL ht h6 (br_c (fun hv => mv_blw hL ht (fun q hq => br_f (mv_nle.mpr hq) (no q hq)) (fun hf ho => br_t (by decide) ?_)) (fun _ => no _ (by decide)))))
        obtain ⟨h8, hl⟩ := hL t ht h6
        have hlv : mv_lv a6 a8 t (mv_lev a8 t) := ⟨ht, by omega, h6, Nat.le_refl _⟩
        have hT := mv_I_touch hI ht h6 rfl hj hf
        have hC := mv_cbo_t (a8 := a8) (a10 := a10) (t := t) (y := (1 : Int32) <<< (nI j &&& 31)) rfl
        obtain ⟨m, b1, b2, b3, b4, b5⟩ := hI.2.1.2.2.1 t _ hlv
        rcases mv_V_c (mv_vi a1 a2 a4 a5 (a7 t ||| mv_oso a8 a9 t) (nI j)) with ⟨e, _⟩ | ⟨v, v1, v2, e⟩
        · exact absurd hv (by rw [show mv_vo a1 a2 a4 a5 a7 a8 a9 t (nI j) = -1 from e]; decide)
        · obtain ⟨w1, w2, w3⟩ := mv_seen hI.2.2.2.1 ht h6 v1 v2 ho
          rw [show mv_vo a1 a2 a4 a5 a7 a8 a9 t (nI j) = nI v from e]
          have hrb : mv_rb (upd a10 (t * 4 + mv_lev a8 t) (a10 (t * 4 + mv_lev a8 t) ||| ((1 : Int32) <<< (nI j &&& 31))) (t * 4 + mv_lev a8 t)) (nI j) = true := by
            rw [pk_us, mv_rb_or, mv_rb_shl j hj, Bool.or_true]
          have hD := mv_I_endv (v := v) hT hlv hs v1 (by rw [w2]; exact hrb)
          generalize mv_lev a8 t = l at h8 hl hlv hT hC b3 hrb hD
          have hp : vp_in (nI (t * 4 + l)) 16 := vp_in_nI (by omega) (by decide)
          have ep : (nI (t * 4 + l)).toNatClampNeg = t * 4 + l := nI_clamp (by omega)
          refine mv_curw ht h8 (mv_curw ht h8 ⟨hp, hp, ?_⟩)
          rw [ep]
          refine nm_e (mv_curw ht h8 ⟨hp, vp_in_nI v1 (by decide), ?_⟩)
          rw [ep, nI_clamp (show v < 2 ^ 31 by omega)]
          refine nm_e (H _ _ ⟨mv_I_s hD, ?_, fun _ => ?_⟩)
          · show mv_rows c a1 a2 a4 (upd a5 v (a9 (t * 4 + l))) = mv_rows c a1 a2 a4 a5
            rw [b3]
            exact mv_rows_congr (fun y w _ => mv_vi_endv b1 (by omega) b5 w3 y w)
          · show mv_ch a6 a8 _ (nI t) = mv_ch a6 a8 a10 (nI t) ||| _
            rw [mv_ch_op ht h6, mv_ch_op ht h6, mv_y7 j hj, hC]
end
end
section
/-! ===== numbers; beginnings and ends of transactions ===== -/
section
variable {c r : Int64} {a1 a2 a3 a4 a5 a6 : Nat → Int32} {a7 : Nat → Int64} {a8 a9 a10 a11 a12 : Nat → Int32}
theorem mv_fnw {post : Int32 → Prop} {s : Nat} (hA : mv_A s c r a6 a8 a9) (hB : mv_B s a1 a4 a5) (hs : s ≤ 61)
    (H : ∀ m, 1 ≤ m → m ≤ s + 1 → mv_bt c (nI m) = false → mv_bt r (nI m) = false → (∀ v, v < 96 → a1 v ≠ 0 → a5 v ≠ nI m) → post (nI m)) : wpX_freeNumber post (c, r, a1, a2, a3, a4, a5, a6, a7, a8, a9, a10, a11, a12) := by
  have K2 : ∀ x1 : Int64, (∀ n, n < 64 → mv_bt x1 (nI n) = true → n ≤ s) → (∀ n, mv_bt x1 n = false → mv_bt c n = false ∧ mv_bt r n = false) → (∀ v, v < 96 → a1 v ≠ 0 → mv_bt x1 (a5 v) = true) →
      ∀ k q, 1 ≤ q → q + k = s + 1 → wX_freeNumber_59 post x1 c r a1 a2 a3 a4 a5 a6 a7 a8 a9 a10 a11 a12 (k + 1) (nI q) := by
    intro x1 g1 g2 g3 k
    have fin : ∀ q, 1 ≤ q → q ≤ s + 1 → mv_bt x1 (nI q) = false → post (nI q) := by
      intro q q1 q2 hb
      obtain ⟨d1, d2⟩ := g2 _ hb
      refine H q q1 q2 d1 d2 (fun v e1 e2 e3 => ?_)
      have := g3 v e1 e2
      rw [e3, hb] at this
      exact absurd this (by decide)
    induction k with
    | zero =>
      intro q q1 q2
      refine br_f (nI_ge (b := 63) (by omega) (by decide)) (br_c (fun g => fin q q1 (by omega) (mv_e0.mp g)) (fun g => ?_))
      refine absurd (mv_e0.mpr ?_) g
      refine Bool.eq_false_iff.mpr (fun hb => ?_)
      have := g1 q (by omega) hb
      omega
    | succ k ih =>
      intro q q1 q2
      exact br_f (nI_ge (b := 63) (by omega) (by decide)) (br_c (fun g => fin q q1 (by omega) (mv_e0.mp g)) (fun g => nm_r (nI_1 q) (ih (q + 1) (by omega) (by omega))))
  have K1 : ∀ k i (x1 : Int64), i + k = 96 → (∀ n, n < 64 → mv_bt x1 (nI n) = true → n ≤ s) → (∀ n, mv_bt x1 n = false → mv_bt c n = false ∧ mv_bt r n = false) → (∀ v, v < i → a1 v ≠ 0 → mv_bt x1 (a5 v) = true) →
      wX_freeNumber_12 post c r a1 a2 a3 a4 a5 a6 a7 a8 a9 a10 a11 a12 (k + 1) x1 (nI i) := by
    intro k
    induction k with
    | zero =>
      intro i x1 hi g1 g2 g3
      obtain rfl : i = 96 := by omega
      exact br_t (by decide) ⟨s + 1, K2 x1 g1 g2 g3 s 1 (by omega) (by omega)⟩
    | succ k ih =>
      intro i x1 hi g1 g2 g3
      have hv : vp_in (nI i) 96 := vp_in_nI (by omega) (by decide)
      refine br_f (nI_ge (b := 96) (by omega) (by decide)) ⟨hv, ?_⟩
      rw [nI_clamp (show i < 2 ^ 31 by omega)]
      refine br_c (fun g => nm_r (nI_1 i) (ih (i + 1) x1 (by omega) g1 g2 (fun v h1 h2 => ?_))) (fun g => ⟨hv, mv_bitw ⟨hv, mv_bitw (nm_e (nm_r (nI_1 i) (ih (i + 1) _ (by omega) (fun n hn hb => ?_) (fun n hb => ?_) (fun v h1 h2 => ?_))))⟩⟩)
      · by_cases e : v = i
        · subst e; exact absurd g h2
        · exact g3 v (by omega) h2
      · obtain ⟨⟨m4, p1, p2⟩, ⟨m5, p3, p4⟩⟩ := hB i (by omega) g
        rw [mv_bt_or, mv_bt_or, p2, p4, Bool.or_eq_true, Bool.or_eq_true] at hb
        rcases hb with (hb | hb) | hb
        · exact g1 n hn hb
        · have := mv_bitEq (by omega) hn hb; omega
        · have := mv_bitEq (by omega) hn hb; omega
      · rw [mv_bt_or, mv_bt_or, Bool.or_eq_false_iff, Bool.or_eq_false_iff] at hb
        exact g2 n hb.1.1
      · rw [mv_bt_or, mv_bt_or]
        by_cases e : v = i
        · subst e
          obtain ⟨⟨m4, p1, p2⟩, ⟨m5, p3, p4⟩⟩ := hB v (by omega) g
          rw [p4, mv_bt_self (by omega), Bool.or_true]
        · rw [g3 v (by omega) h2]; rfl
  refine nm_e ⟨97, K1 96 0 _ rfl (fun n hn hb => ?_) (fun n hb => ?_) (fun v h => absurd h (by omega))⟩
  · rw [mv_bt_or, Bool.or_eq_true] at hb
    rcases hb with hb | hb
    · exact hA.1 n hn hb
    · exact hA.2.1 n hn hb
  · rw [mv_bt_or, Bool.or_eq_false_iff] at hb
    exact hb
theorem mv_nnw {post : Int32 → St1 → Prop} {s : Nat} (hA : mv_A s c r a6 a8 a9) (hB : mv_B s a1 a4 a5) (hs : s ≤ 61)
    (H : ∀ m, 1 ≤ m → m ≤ s + 1 → mv_bt c (nI m) = false → mv_bt r (nI m) = false → (∀ v, v < 96 → a1 v ≠ 0 → a5 v ≠ nI m) → post (nI m) (c, r ||| mv_bit (nI m), a1, a2, a3, a4, a5, a6, a7, a8, a9, a10, a11, a12)) : wpX_newNumber post (c, r, a1, a2, a3, a4, a5, a6, a7, a8, a9, a10, a11, a12) := by
  unfold wpX_newNumber
  refine mv_fnw hA hB hs (fun m h1 h2 h3 h4 h5 => br_f (mv_nz h1 (by omega)) ?_)
  unfold wX_newNumber_18
  exact mv_bitw (nm_e (H m h1 h2 h3 h4 h5))
/-- a turn that leaves what committed readers see -/
def mv_ok (i : Nat) (u u' : St1) : Prop := ∃ s, mv_IU s (i + 1) u' ∧ mv_RU u' = mv_RU u
theorem mv_begw {post : Int32 → St1 → Prop} {s i : Nat} {x : Int32} (hI : mv_I s i c r a1 a2 a4 a5 a6 a7 a8 a9 a10 a11) (hi : i ≤ 64) (H : ∀ ans u, mv_ok i (c, r, a1, a2, a3, a4, a5, a6, a7, a8, a9, a10, a11, a12) u → post ans u) : wpX_open post (c, r, a1, a2, a3, a4, a5, a6, a7, a8, a9, a10, a11, a12) x := by
  unfold wpX_open
  have hL := hI.1
  have hs : s ≤ 61 := mv_s61 hL hI.2.2.2.2.2.2.2 hi
  have no : ∀ ans, post ans (c, r, a1, a2, a3, a4, a5, a6, a7, a8, a9, a10, a11, a12) := fun ans => H ans _ ⟨s, mv_I_s hI, rfl⟩
  rcases mv_x4 x with hx | ⟨t, ht, rfl⟩
  · exact mv_rf_bad hx (br_f (by decide) (br_t rfl (no _)))
  · by_cases h6 : a6 t = 0
    · refine mv_rf_cl ht h6 (br_t rfl (mv_nnw hI.2.1 hI.2.2.1 hs (fun m h1 h2 h3 h4 h5 => ?_)))
      have hv : vp_in (nI t) 4 := vp_in_nI ht (by decide)
      have hp : vp_in (nI (t * 4)) 16 := vp_in_nI (by omega) (by decide)
      dsimp only
      rw [mv_ix0, nI_clamp (show t < 2 ^ 31 by omega), nI_clamp (show t * 4 < 2 ^ 31 by omega)]
      exact ⟨hv, nm_e ⟨hv, nm_e ⟨hv, nm_e ⟨hp, nm_e ⟨hp, nm_e ⟨hv, nm_e (H _ _ ⟨s + 1, mv_I_begin hI ht h6 h1 h2 hs h3 h4 h5, rfl⟩)⟩⟩⟩⟩⟩⟩
    · exact mv_rf_op ht h6 (br_f (by decide) (br_f (by decide) (no _)))
theorem mv_savew {post : Int32 → St1 → Prop} {s i : Nat} {x : Int32} (hI : mv_I s i c r a1 a2 a4 a5 a6 a7 a8 a9 a10 a11) (hi : i ≤ 64) (H : ∀ ans u, mv_ok i (c, r, a1, a2, a3, a4, a5, a6, a7, a8, a9, a10, a11, a12) u → post ans u) : wpX_save post (c, r, a1, a2, a3, a4, a5, a6, a7, a8, a9, a10, a11, a12) x := by
  unfold wpX_save
  have hL := hI.1
  have hs : s ≤ 61 := mv_s61 hL hI.2.2.2.2.2.2.2 hi
  have no : ∀ ans, post ans (c, r, a1, a2, a3, a4, a5, a6, a7, a8, a9, a10, a11, a12) := fun ans => H ans _ ⟨s, mv_I_s hI, rfl⟩
  rcases mv_x4 x with hx | ⟨t, ht, rfl⟩
  · exact mv_rf_bad hx (br_f (by decide) (no _))
  · by_cases h6 : a6 t = 0
    · exact mv_rf_cl ht h6 (br_f (by decide) (no _))
    · have hv : vp_in (nI t) 4 := vp_in_nI ht (by decide)
      refine mv_rf_op ht h6 (br_t (by decide) ⟨hv, ?_⟩)
      obtain ⟨h8, hl⟩ := hL t ht h6
      have hI' := fun m => mv_I_save (m := m) hI ht h6 rfl
      generalize mv_lev a8 t = l at h8 hl hI'
      rw [nI_clamp (show t < 2 ^ 31 by omega), h8]
      refine pk_eq l 3 (fun _ => no _) (fun g => mv_nnw hI.2.1 hI.2.2.1 hs (fun m h1 h2 h3 h4 h5 => ⟨hv, hv, ?_⟩))
      have hp : vp_in (nI (t * 4 + (l + 1))) 16 := vp_in_nI (by omega) (by decide)
      have ep : (nI (t * 4 + (l + 1))).toNatClampNeg = t * 4 + (l + 1) := nI_clamp (by omega)
      rw [h8, nI_1]
      refine nm_e (mv_curw (l := l + 1) ht pk_us ⟨hp, ?_⟩)
      rw [ep]
      refine nm_e (mv_curw (l := l + 1) ht pk_us ⟨hp, ?_⟩)
      rw [ep]
      exact nm_e ⟨hv, H _ _ ⟨s + 1, hI' m (by omega) h1 h2 hs h3 h4 h5, rfl⟩⟩
theorem mv_backw {post : Int32 → St1 → Prop} {s i : Nat} {x : Int32} (hI : mv_I s i c r a1 a2 a4 a5 a6 a7 a8 a9 a10 a11) (hi : i ≤ 64) (H : ∀ ans u, mv_ok i (c, r, a1, a2, a3, a4, a5, a6, a7, a8, a9, a10, a11, a12) u → post ans u) : wpX_back post (c, r, a1, a2, a3, a4, a5, a6, a7, a8, a9, a10, a11, a12) x := by
  unfold wpX_back
  have hL := hI.1
  have hs : s ≤ 61 := mv_s61 hL hI.2.2.2.2.2.2.2 hi
  have no : ∀ ans, post ans (c, r, a1, a2, a3, a4, a5, a6, a7, a8, a9, a10, a11, a12) := fun ans => H ans _ ⟨s, mv_I_s hI, rfl⟩
  rcases mv_x4 x with hx | ⟨t, ht, rfl⟩
  · exact mv_rf_bad hx (br_f (by decide) (no _))
  · by_cases h6 : a6 t = 0
    · exact mv_rf_cl ht h6 (br_f (by decide) (no _))
    · have hv : vp_in (nI t) 4 := vp_in_nI ht (by decide)
      refine mv_rf_op ht h6 (br_t (by decide) ⟨hv, ?_⟩)
      obtain ⟨h8, hl⟩ := hL t ht h6
      have hI' := fun l => mv_I_back (l := l) hI ht h6
      generalize mv_lev a8 t = l at h8 hl hI'
      have et : (nI t).toNatClampNeg = t := nI_clamp (by omega)
      rw [et, h8]
      refine pk_eq l 0 (fun _ => no _) (fun g => ?_)
      obtain ⟨q, rfl⟩ : ∃ q, l = q + 1 := ⟨l - 1, by omega⟩
      have hp : vp_in (nI (t * 4 + (q + 1))) 16 := vp_in_nI (by omega) (by decide)
      have ep : (nI (t * 4 + (q + 1))).toNatClampNeg = t * 4 + (q + 1) := nI_clamp (by omega)
      refine mv_curw ht h8 ⟨hp, ?_⟩
      rw [ep]
      refine mv_bitw (nm_e ⟨hv, hv, ?_⟩)
      rw [nI_pred]
      exact nm_e ⟨hv, H _ _ ⟨s, hI' q rfl (by omega) (by omega), rfl⟩⟩
theorem mv_szw {post : Int32 → Prop} {x : Int32} (h : post (mv_sz x 8)) : wpX_sizeOf post (c, r, a1, a2, a3, a4, a5, a6, a7, a8, a9, a10, a11, a12) x := by
  have K : ∀ k i, i + k = 8 → wX_sizeOf_4 post x c r a1 a2 a3 a4 a5 a6 a7 a8 a9 a10 a11 a12 (k + 1) (mv_sz x i) (nI i) := by
    intro k
    induction k with
    | zero =>
      intro i hi
      obtain rfl : i = 8 := by omega
      exact br_t (by decide) h
    | succ k ih =>
      intro i hi
      exact br_f (nI_ge (b := 8) (by omega) (by decide)) (nm_e (nm_r (nI_1 i) (ih (i + 1) (by omega))))
  exact ⟨9, K 8 0 rfl⟩
/-- what an end must leave -/
def mv_fin (s i : Nat) (u : St1) (x ans : Int32) (u' : St1) : Prop :=
  mv_IU s (i + 1) u' ∧ (¬ ans < 0 → mv_CU u' x = -2 ∧ ¬ 8 < ans ∧ (mv_CU u x = 0 ↔ ans = 0))
theorem mv_fin_no {s i : Nat} {x ans : Int32} (hI : mv_I s i c r a1 a2 a4 a5 a6 a7 a8 a9 a10 a11) (h : ans < 0) : mv_fin s i (c, r, a1, a2, a3, a4, a5, a6, a7, a8, a9, a10, a11, a12) x ans (c, r, a1, a2, a3, a4, a5, a6, a7, a8, a9, a10, a11, a12) := ⟨mv_I_s hI, fun z => absurd h z⟩
theorem mv_fin_sz {a6 a8 a10 : Nat → Int32} {t : Nat} (hG : mv_G a6 a8 a10) (ht : t < 4) (h6 : a6 t ≠ 0) :
    ¬ 8 < mv_sz (mv_cbo a8 a10 t) 8 ∧ (mv_ch a6 a8 a10 (nI t) = 0 ↔ mv_sz (mv_cbo a8 a10 t) 8 = 0) := by
  rw [mv_ch_op ht h6]
  obtain ⟨j, hj, e⟩ := mv_255 (hG.1 t ht h6)
  rw [e]
  obtain ⟨g1, g2, _⟩ := mv_sz_f j hj
  exact ⟨g1, g2.symm⟩
theorem mv_abortw {post : Int32 → St1 → Prop} {s i : Nat} {x : Int32} (hI : mv_I s i c r a1 a2 a4 a5 a6 a7 a8 a9 a10 a11) (hi : i ≤ 64) (H : ∀ ans u, mv_fin s i (c, r, a1, a2, a3, a4, a5, a6, a7, a8, a9, a10, a11, a12) x ans u → mv_RU u = mv_RU (c, r, a1, a2, a3, a4, a5, a6, a7, a8, a9, a10, a11, a12) → post ans u) : wpX_abort post (c, r, a1, a2, a3, a4, a5, a6, a7, a8, a9, a10, a11, a12) x := by
  unfold wpX_abort
  have hL := hI.1
  have hs : s ≤ 61 := mv_s61 hL hI.2.2.2.2.2.2.2 hi
  have no : ∀ ans, ans < 0 → post ans (c, r, a1, a2, a3, a4, a5, a6, a7, a8, a9, a10, a11, a12) := fun ans h => H ans _ (mv_fin_no hI h) rfl
  rcases mv_x4 x with hx | ⟨t, ht, rfl⟩
  · exact mv_rf_bad hx (br_f (by decide) (no _ (by decide)))
  · by_cases h6 : a6 t = 0
    · exact mv_rf_cl ht h6 (br_f (by decide) (no _ (by decide)))
    · refine mv_rf_op ht h6 (br_t (by decide) ?_)
      unfold wpX_close
      refine mv_cbw hL ht h6 (mv_osw hL ht h6 (nm_e ⟨vp_in_nI ht (by decide), ?_⟩))
      rw [nI_clamp (show t < 2 ^ 31 by omega)]
      refine nm_e (br_t rfl ?_)
      unfold wX_close_81
      refine mv_szw (H _ _ ⟨mv_I_end hI ht h6 (by omega), fun _ => ⟨mv_ch_cl ht pk_us, ?_⟩⟩ rfl)
      exact mv_fin_sz hI.2.2.2.2.2.1 ht h6
theorem mv_cl53 {post : Int32 → St1 → Prop} {x : Int32} (H : ∀ b11, (∀ u, u < 4 → b11 u = a11 u ||| x) → wX_close_81 post x c r a1 a2 a3 a4 a5 a6 a7 a8 a9 a10 b11 a12) : ∃ n, wX_close_53 post x c r n 0 a1 a2 a3 a4 a5 a6 a7 a8 a9 a10 a11 a12 := by
  have K : ∀ k q b11, q + k = 4 → (∀ u, u < q → b11 u = a11 u ||| x) → (∀ u, q ≤ u → b11 u = a11 u) → wX_close_53 post x c r (k + 1) (nI q) a1 a2 a3 a4 a5 a6 a7 a8 a9 a10 b11 a12 := by
    intro k
    induction k with
    | zero =>
      intro q b11 hq g1 g2
      obtain rfl : q = 4 := by omega
      exact br_t (by decide) (H b11 g1)
    | succ k ih =>
      intro q b11 hq g1 g2
      have hv : vp_in (nI q) 4 := vp_in_nI (by omega) (by decide)
      refine br_f (nI_ge (b := 4) (by omega) (by decide)) ⟨hv, hv, ?_⟩
      rw [nI_clamp (show q < 2 ^ 31 by omega)]
      refine nm_e (nm_r (nI_1 q) (ih (q + 1) _ (by omega) (fun u hu => ?_) (fun u hu => ?_)))
      · by_cases e : u = q
        · subst e; rw [pk_us, g2 u (by omega)]
        · rw [pk_un e]; exact g1 u (by omega)
      · rw [pk_un (by omega)]; exact g2 u (by omega)
  exact ⟨5, K 4 0 a11 rfl (fun u hu => absurd hu (by omega)) (fun u _ => rfl)⟩
theorem mv_commitw {post : Int32 → St1 → Prop} {s i : Nat} {x : Int32} (hI : mv_I s i c r a1 a2 a4 a5 a6 a7 a8 a9 a10 a11) (hi : i ≤ 64) (H : ∀ ans u, mv_fin s i (c, r, a1, a2, a3, a4, a5, a6, a7, a8, a9, a10, a11, a12) x ans u → post ans u) : wpX_commit post (c, r, a1, a2, a3, a4, a5, a6, a7, a8, a9, a10, a11, a12) x := by
  unfold wpX_commit
  have hL := hI.1
  have hs : s ≤ 61 := mv_s61 hL hI.2.2.2.2.2.2.2 hi
  have no : ∀ ans, ans < 0 → post ans (c, r, a1, a2, a3, a4, a5, a6, a7, a8, a9, a10, a11, a12) := fun ans h => H ans _ (mv_fin_no hI h)
  rcases mv_x4 x with hx | ⟨t, ht, rfl⟩
  · exact mv_rf_bad hx (br_f (by decide) (no _ (by decide)))
  · by_cases h6 : a6 t = 0
    · exact mv_rf_cl ht h6 (br_f (by decide) (no _ (by decide)))
    · refine mv_rf_op ht h6 (br_t (by decide) ?_)
      unfold wpX_close
      refine mv_cbw hL ht h6 (mv_osw hL ht h6 (nm_e ⟨vp_in_nI ht (by decide), ?_⟩))
      rw [nI_clamp (show t < 2 ^ 31 by omega)]
      refine nm_e (br_f (by decide) (nm_e ?_))
      refine mv_cl53 (fun b11 g1 => ?_)
      unfold wX_close_81
      refine mv_szw (H _ _ ⟨mv_I_commit hI ht h6 (by omega) g1, fun _ => ⟨mv_ch_cl ht pk_us, ?_⟩⟩)
      exact mv_fin_sz hI.2.2.2.2.2.1 ht h6
theorem mv_crashw {post : Int32 → St1 → Prop} {s i : Nat} (hI : mv_I s i c r a1 a2 a4 a5 a6 a7 a8 a9 a10 a11) (H : ∀ ans u, mv_ok i (c, r, a1, a2, a3, a4, a5, a6, a7, a8, a9, a10, a11, a12) u → post ans u) : wpX_crash post (c, r, a1, a2, a3, a4, a5, a6, a7, a8, a9, a10, a11, a12) := by
  have K : ∀ k q y b6, q + k = 4 → (∀ u, u < q → b6 u = 0) → wX_crash_4 post c r (k + 1) y (nI q) a1 a2 a3 a4 a5 b6 a7 a8 a9 a10 a11 a12 := by
    intro k
    induction k with
    | zero =>
      intro q y b6 hq g
      obtain rfl : q = 4 := by omega
      exact br_t (by decide) (H _ _ ⟨s, mv_I_crash hI g, rfl⟩)
    | succ k ih =>
      intro q y b6 hq g
      have hv : vp_in (nI q) 4 := vp_in_nI (by omega) (by decide)
      have st : ∀ u, u < q + 1 → upd b6 q 0 u = 0 := by
        intro u hu
        by_cases e : u = q
        · subst e; exact pk_us
        · rw [pk_un e]; exact g u (by omega)
      refine br_f (nI_ge (b := 4) (by omega) (by decide)) ⟨hv, ?_⟩
      rw [nI_clamp (show q < 2 ^ 31 by omega)]
      exact br_c (fun _ => ⟨hv, nm_e (nm_r (nI_1 q) (ih (q + 1) _ _ (by omega) st))⟩) (fun _ => nm_e ⟨hv, nm_e (nm_r (nI_1 q) (ih (q + 1) _ _ (by omega) st))⟩)
  exact ⟨5, K 4 0 0 a6 rfl (fun u hu => absurd hu (by omega))⟩
end
end
section
/-! ===== ends that never came to be ===== -/
def mv_over (c r : Int64) (n : Int32) : Bool := !decide (n = 0) && !mv_in (c ||| r) n
/-- b5: a5, some ends that never came to be taken away -/
def mv_Z (c r : Int64) (a5 b5 : Nat → Int32) : Prop := ∀ v, b5 v = a5 v ∨ (b5 v = 0 ∧ mv_over c r (a5 v) = true)
theorem mv_over_c {c r : Int64} {n : Int32} (h : mv_over c r n = true) : n ≠ 0 ∧ mv_bt c n = false ∧ mv_bt r n = false := by
  unfold mv_over mv_in at h
  rw [mv_bt_or] at h
  have : n ≠ 0 := by
    intro e
    rw [e] at h
    simp at h
  refine ⟨this, ?_⟩
  simpa [this] using h
theorem mv_Z_step {c r : Int64} {a5 b5 : Nat → Int32} {v : Nat} (h : mv_Z c r a5 b5) (ho : mv_over c r (b5 v) = true) : mv_Z c r a5 (upd b5 v 0) := by
  intro w
  by_cases e : w = v
  · subst e
    rw [pk_us]
    rcases h w with g | ⟨g, _⟩
    · rw [g] at ho
      exact Or.inr ⟨rfl, ho⟩
    · exact absurd g (mv_over_c ho).1
  · rw [pk_un e]
    exact h w
theorem mv_Z_se {c r : Int64} {a4 a5 b5 : Nat → Int32} (h : mv_Z c r a5 b5) (v : Nat) : mv_se a4 b5 c v = mv_se a4 a5 c v := by
  unfold mv_se
  rcases h v with g | ⟨g, ho⟩
  · rw [g]
  · obtain ⟨o1, o2, o3⟩ := mv_over_c ho
    rw [g]
    simp [mv_in, o1, o2]
theorem mv_I_flush {s i : Nat} {c r : Int64} {a1 a2 a4 a5 a6 : Nat → Int32} {a7 : Nat → Int64} {a8 a9 a10 a11 : Nat → Int32} {b5 : Nat → Int32} (h : mv_I s i c r a1 a2 a4 a5 a6 a7 a8 a9 a10 a11) (hs : s ≤ 62) (hZ : mv_Z c r a5 b5) : mv_I s i c r a1 a2 a4 b5 a6 a7 a8 a9 a10 a11 := by
  obtain ⟨hL, hA, hB, hE, hF, hG, hW, hP⟩ := h
  refine ⟨hL, hA, fun w g1 g2 => ?_, fun w t' g1 g2 g3 g4 g5 g6 => ?_, fun w t' k g1 g2 g3 g4 => ?_, hG, hW, hP⟩
  · refine ⟨(hB w g1 g2).1, ?_⟩
    rcases hZ w with e | ⟨e, _⟩
    · rw [e]; exact (hB w g1 g2).2
    · rw [e]; exact ⟨0, by omega, rfl⟩
  · rcases hZ w with e | ⟨e, _⟩
    · rw [e] at g5 g6 ⊢
      exact hE w t' g1 g2 g3 g4 g5 g6
    · exact absurd e g5
  · rcases hZ w with e | ⟨e, _⟩
    · rw [e] at g4
      exact hF w t' k g1 g2 g3 g4
    · obtain ⟨m', d1, d2, d3, d4, d5⟩ := hA.2.2.1 t' k g3
      rw [e, d3] at g4
      exact absurd g4.symm (mv_nz d1 (by omega))
theorem mv_vi_flush {c r : Int64} {a1 a2 a4 a5 b5 : Nat → Int32} (h : mv_Z c r a5 b5) (x : Int32) (v : Nat) : mv_vi a1 a2 a4 b5 c x v = mv_vi a1 a2 a4 a5 c x v := by
  unfold mv_vi
  rw [mv_Z_se h v]
/-! ===== tidying, in plain terms ===== -/
def mv_pv (b : Nat → Bool) : Nat → Int32
  | 0 => 0
  | k + 1 => if b k = true then mv_pv b k ||| ((1 : Int32) <<< (nI k &&& 31)) else mv_pv b k
theorem mv_pv_t {b : Nat → Bool} {k : Nat} (h : b k = true) : mv_pv b (k + 1) = mv_pv b k ||| ((1 : Int32) <<< (nI k &&& 31)) := if_pos h
theorem mv_pv_f {b : Nat → Bool} {k : Nat} (h : b k = false) : mv_pv b (k + 1) = mv_pv b k := if_neg (by rw [h]; decide)
def mv_p4 (b0 b1 b2 b3 : Bool) : Int32 :=
  let p1 : Int32 := if b0 = true then 0 ||| ((1 : Int32) <<< (nI 0 &&& 31)) else 0
  let p2 : Int32 := if b1 = true then p1 ||| ((1 : Int32) <<< (nI 1 &&& 31)) else p1
  let p3 : Int32 := if b2 = true then p2 ||| ((1 : Int32) <<< (nI 2 &&& 31)) else p2
  if b3 = true then p3 ||| ((1 : Int32) <<< (nI 3 &&& 31)) else p3
theorem mv_p4_in : ∀ b0 b1 b2 b3 : Bool, mv_p4 b0 b1 b2 b3 = nI (mv_p4 b0 b1 b2 b3).toNatClampNeg ∧ (mv_p4 b0 b1 b2 b3).toNatClampNeg < 16 := by decide +kernel
theorem mv_p4_rb : ∀ b0 b1 b2 b3 : Bool, mv_rb (mv_p4 b0 b1 b2 b3) (nI 0) = b0 ∧ mv_rb (mv_p4 b0 b1 b2 b3) (nI 1) = b1 ∧ mv_rb (mv_p4 b0 b1 b2 b3) (nI 2) = b2 ∧ mv_rb (mv_p4 b0 b1 b2 b3) (nI 3) = b3 := by decide +kernel
theorem mv_rb15 : ∀ t, t < 4 → mv_rb 15 (nI t) = true := by decide +kernel
theorem mv_pv4 (b : Nat → Bool) : mv_pv b 4 = mv_p4 (b 0) (b 1) (b 2) (b 3) := rfl
theorem mv_pv_rb (b : Nat → Bool) {t : Nat} (ht : t < 4) : mv_rb (mv_pv b 4) (nI t) = b t := by
  rw [mv_pv4]
  obtain ⟨h0, h1, h2, h3⟩ := mv_p4_rb (b 0) (b 1) (b 2) (b 3)
  have : t = 0 ∨ t = 1 ∨ t = 2 ∨ t = 3 := by omega
  rcases this with rfl | rfl | rfl | rfl
  · exact h0
  · exact h1
  · exact h2
  · exact h3
def mv_pb (a6 : Nat → Int32) (a7 : Nat → Int64) (n : Int32) (t : Nat) : Bool := decide (a6 t = 0) || mv_in (a7 t) n
def mv_pt (a6 : Nat → Int32) (a7 : Nat → Int64) (n : Int32) : Int32 := mv_pv (mv_pb a6 a7 n) 4
theorem mv_pt_in (a6 : Nat → Int32) (a7 : Nat → Int64) (n : Int32) : ∃ p, p < 16 ∧ mv_pt a6 a7 n = nI p := by
  unfold mv_pt
  rw [mv_pv4]
  obtain ⟨h1, h2⟩ := mv_p4_in (mv_pb a6 a7 n 0) (mv_pb a6 a7 n 1) (mv_pb a6 a7 n 2) (mv_pb a6 a7 n 3)
  exact ⟨_, h2, h1⟩
theorem mv_pt_eq {a6 : Nat → Int32} {a7 : Nat → Int64} {n n' : Int32} (h : mv_pt a6 a7 n' = mv_pt a6 a7 n) {t : Nat} (ht : t < 4) (h6 : a6 t ≠ 0) : mv_in (a7 t) n' = mv_in (a7 t) n := by
  have e : mv_pb a6 a7 n' t = mv_pb a6 a7 n t := by
    rw [← mv_pv_rb (mv_pb a6 a7 n') ht, ← mv_pv_rb (mv_pb a6 a7 n) ht]
    exact congrArg (fun x => mv_rb x (nI t)) h
  unfold mv_pb at e
  simpa [h6] using e
theorem mv_pt_15 {a6 : Nat → Int32} {a7 : Nat → Int64} {n : Int32} (h : mv_pt a6 a7 n = 15) {t : Nat} (ht : t < 4) (h6 : a6 t ≠ 0) : mv_in (a7 t) n = true := by
  have e : mv_pb a6 a7 n t = true := by
    rw [← mv_pv_rb (mv_pb a6 a7 n) ht, ← mv_rb15 t ht]
    exact congrArg (fun x => mv_rb x (nI t)) h
  unfold mv_pb at e
  simpa [h6] using e
/-- the table of standing numbers -/
def mv_ok12 (s : Nat) (c : Int64) (a6 : Nat → Int32) (a7 : Nat → Int64) (a12 : Nat → Int32) : Prop :=
  ∀ p, p < 16 → a12 p = 0 ∨ ∃ k, 1 ≤ k ∧ k ≤ s ∧ a12 p = nI k ∧ mv_bt c (nI k) = true ∧ mv_pt a6 a7 (nI k) = nI p
/-- n' stands for n -/
def mv_Rel (s : Nat) (c : Int64) (a6 : Nat → Int32) (a7 : Nat → Int64) (n n' : Int32) : Prop :=
  (n = 0 ∧ n' = 0) ∨ (n ≠ 0 ∧ mv_bt c n = false ∧ n' = n) ∨ (n ≠ 0 ∧ mv_bt c n = true ∧ ((n' = 0 ∧ mv_pt a6 a7 n = 15) ∨ ∃ k, 1 ≤ k ∧ k ≤ s ∧ n' = nI k ∧ mv_bt c (nI k) = true ∧ mv_pt a6 a7 (nI k) = mv_pt a6 a7 n))
theorem mv_Rel_rg {s : Nat} {c : Int64} {a6 : Nat → Int32} {a7 : Nat → Int64} {n n' : Int32} (h : mv_Rel s c a6 a7 n n') (hn : ∃ k, k ≤ s ∧ n = nI k) : ∃ k, k ≤ s ∧ n' = nI k := by
  rcases h with ⟨_, e⟩ | ⟨_, _, e⟩ | ⟨_, _, ⟨e, _⟩ | ⟨k, h1, h2, e, _⟩⟩
  · exact ⟨0, by omega, e⟩
  · rw [e]; exact hn
  · exact ⟨0, by omega, e⟩
  · exact ⟨k, h2, e⟩
/-- what the first pass leaves: b1, b5 -/
def mv_kp (c : Int64) (a4 a6 : Nat → Int32) (a7 : Nat → Int64) (e : Int32) (v : Nat) : Prop :=
  e ≠ 0 → mv_bt c e = true → mv_in c (a4 v) = true → ∃ t, t < 4 ∧ a6 t ≠ 0 ∧ mv_in (a7 t) e = false
def mv_Y (i : Nat) (c r : Int64) (a1 a4 a5 a6 : Nat → Int32) (a7 : Nat → Int64) (b1 b5 : Nat → Int32) : Prop :=
  mv_Z c r a5 b5 ∧ (∀ v, i ≤ v → b1 v = a1 v) ∧ (∀ v, v < i → b1 v ≠ 0 → a1 v ≠ 0 ∧ mv_kp c a4 a6 a7 (b5 v) v) ∧ (∀ v, v < i → b1 v = 0 → a1 v = 0 ∨ mv_se a4 a5 c v = false)
/-- what the second pass leaves: d4, d5 (of a4, b5), x the numbers in use -/
def mv_U (i s : Nat) (c : Int64) (b1 a4 b5 a6 : Nat → Int32) (a7 : Nat → Int64) (d4 d5 : Nat → Int32) (x : Int64) : Prop :=
  (∀ v, i ≤ v → d4 v = a4 v ∧ d5 v = b5 v) ∧ (∀ v, v < i → b1 v ≠ 0 → mv_Rel s c a6 a7 (a4 v) (d4 v) ∧ mv_Rel s c a6 a7 (b5 v) (d5 v) ∧ mv_bt x (d4 v) = true ∧ mv_bt x (d5 v) = true)
theorem mv_tidy_in {s : Nat} {c x : Int64} {a6 : Nat → Int32} {a7 : Nat → Int64} {n n' : Int32} (h : mv_Rel s c a6 a7 n n') (hx : mv_bt x n' = true) (hz : n' = 0 → n = 0 ∨ mv_bt c n = true) : mv_in (c &&& x) n' = mv_in c n := by
  unfold mv_in
  rw [mv_bt_and, hx, Bool.and_true]
  rcases h with ⟨e1, e2⟩ | ⟨e1, e2, e3⟩ | ⟨e1, e2, ⟨e3, _⟩ | ⟨k, h1, h2, e3, e4, _⟩⟩
  · rw [e1, e2]
  · rw [e3]
  · rw [e3, e2]; simp
  · rw [e3, e4, e2]; simp
theorem mv_I_tidy {s i : Nat} {c r : Int64} {a1 a2 a4 a5 a6 : Nat → Int32} {a7 : Nat → Int64} {a8 a9 a10 a11 : Nat → Int32} {b1 b5 d4 d5 : Nat → Int32} {b7 : Nat → Int64} {x : Int64} (h : mv_I s i c r a1 a2 a4 a5 a6 a7 a8 a9 a10 a11) (hs : s ≤ 62) (hY : mv_Y 96 c r a1 a4 a5 a6 a7 b1 b5) (hU : mv_U 96 s c b1 a4 b5 a6 a7 d4 d5 x) (h7 : ∀ t, t < 4 → b7 t = a7 t &&& x) :
    mv_I s i (c &&& x) r b1 a2 d4 d5 a6 b7 a8 a9 a10 a11 := by
  obtain ⟨hL, hA, hB, hE, hF, hG, hW, hP⟩ := mv_I_flush h hs hY.1
  have us : ∀ v, v < 96 → b1 v ≠ 0 → a1 v ≠ 0 := fun v g1 g2 => (hY.2.2.1 v g1 g2).1
  refine ⟨hL, ⟨fun n hn hb => ?_, hA.2.1, fun t' k hk => ?_, hA.2.2.2⟩, fun w g1 g2 => ?_, fun w t' g1 g2 g3 g4 g5 g6 => ?_, fun w t' k g1 g2 g3 g4 => ?_, hG, fun w g1 g2 => ?_, hP⟩
  · rw [mv_bt_and, Bool.and_eq_true] at hb
    exact hA.1 n hn hb.1
  · obtain ⟨m', d1, d2, d3, d4, d5⟩ := hA.2.2.1 t' k hk
    refine ⟨m', d1, d2, d3, d4, ?_⟩
    rw [mv_bt_and, d5]; rfl
  · obtain ⟨r4, r5, _, _⟩ := hU.2 w g1 g2
    obtain ⟨q4, q5⟩ := hB w g1 (us w g1 g2)
    exact ⟨mv_Rel_rg r4 q4, mv_Rel_rg r5 q5⟩
  · obtain ⟨_, r5, _, x5⟩ := hU.2 w g1 g2
    rw [mv_bt_and, Bool.and_eq_true] at g6
    rcases r5 with ⟨_, e2⟩ | ⟨_, e2, e3⟩ | ⟨e1, e2, ⟨e3, _⟩ | ⟨k, h1, h2, e3, e4, e5⟩⟩
    · exact absurd e2 g5
    · rw [e3, e2] at g6
      exact absurd g6.1 (by decide)
    · exact absurd e3 g5
    · rcases hE w t' g1 (us w g1 g2) g3 g4 e1 e2 with z | z
      · refine Or.inl ?_
        rw [h7 t' g3, mv_bt_and, x5, Bool.and_true]
        have q : mv_in (a7 t') (nI k) = mv_in (a7 t') (b5 w) := mv_pt_eq e5 g3 g4
        have q2 : mv_in (a7 t') (b5 w) = true := by unfold mv_in; rw [z]; simp
        rw [q2] at q
        unfold mv_in at q
        rw [e3]
        simpa [mv_nz h1 (by omega)] using q
      · exact Or.inr z
  · obtain ⟨_, r5, _, x5⟩ := hU.2 w g1 g2
    obtain ⟨m', k1, k2, k3, k4, k5⟩ := hA.2.2.1 t' k g3
    have nz := mv_nz k1 (show m' < 64 by omega)
    rcases r5 with ⟨_, e2⟩ | ⟨_, e2, e3⟩ | ⟨e1, e2, ⟨e3, _⟩ | ⟨q, h1, h2, e3, e4, e5⟩⟩
    · rw [e2, k3] at g4
      exact absurd g4.symm nz
    · rw [e3] at g4
      exact hF w t' k g1 (us w g1 g2) g3 g4
    · rw [e3, k3] at g4
      exact absurd g4.symm nz
    · rw [e3, k3] at g4
      rw [g4, k5] at e4
      exact absurd e4 (by decide)
  · by_cases z : b1 w = 0
    · exact z
    · exact absurd (hW w g1 g2) (us w g1 z)
theorem mv_vi_tidy {s : Nat} {c r : Int64} {a1 a2 a4 a5 a6 : Nat → Int32} {a7 : Nat → Int64} {b1 b5 d4 d5 : Nat → Int32} {x : Int64} (hY : mv_Y 96 c r a1 a4 a5 a6 a7 b1 b5) (hU : mv_U 96 s c b1 a4 b5 a6 a7 d4 d5 x) (y : Int32) {v : Nat} (hv : v < 96) :
    mv_vi b1 a2 d4 d5 (c &&& x) y v = mv_vi a1 a2 a4 a5 c y v := by
  have hse := mv_Z_se (a4 := a4) hY.1 v
  unfold mv_vi
  by_cases z : b1 v = 0
  · rcases hY.2.2.2 v hv z with q | q
    · simp [z, q]
    · simp [z, q]
  · obtain ⟨h1, hk⟩ := hY.2.2.1 v hv z
    obtain ⟨r4, r5, x4, x5⟩ := hU.2 v hv z
    have e4 : mv_in (c &&& x) (d4 v) = mv_in c (a4 v) := by
      refine mv_tidy_in r4 x4 (fun e => ?_)
      rcases r4 with ⟨e1, e2⟩ | ⟨e1, e2, e3⟩ | ⟨e1, e2, _⟩
      · exact Or.inl e1
      · exact absurd (e3.symm.trans e) e1
      · exact Or.inr e2
    have goal : mv_se d4 d5 (c &&& x) v = mv_se a4 b5 c v := by
      unfold mv_se
      rw [e4]
      cases q : mv_in c (a4 v)
      · rw [Bool.false_and, Bool.false_and]
      · have hk' := fun g1 g2 => hk g1 g2 q
        rcases r5 with ⟨e1, e2⟩ | ⟨e1, e2, e3⟩ | ⟨e1, e2, ⟨e3, e4⟩ | ⟨k, k1, k2, e3, e4, e5⟩⟩
        · simp [e1, e2]
        · rw [e3]
          simp [mv_in, mv_bt_and, e1, e2]
        · obtain ⟨t, t1, t2, t3⟩ := hk' e1 e2
          rw [mv_pt_15 e4 t1 t2] at t3
          exact absurd t3 (by decide)
        · have nz : nI k ≠ 0 ∨ nI k = 0 := by
            by_cases g : nI k = 0
            · exact Or.inr g
            · exact Or.inl g
          rcases nz with nz | nz
          · have g1 : mv_in (c &&& x) (d5 v) = true := by
              unfold mv_in
              rw [mv_bt_and, x5, e3, e4]; simp
            have g2 : mv_in c (b5 v) = true := by
              unfold mv_in
              rw [e2]; simp
            have g3 : d5 v ≠ 0 := by rw [e3]; exact nz
            rw [g1, g2]
            simp [e1, g3]
          · obtain ⟨t, t1, t2, t3⟩ := hk' e1 e2
            have := mv_pt_eq e5 t1 t2
            rw [t3, nz] at this
            exact absurd this (by simp [mv_in])
    rw [goal, hse]
    simp [z, h1]
end
section
/-! ===== the steps of the two passes ===== -/
theorem mv_Y_skip {q : Nat} {c r : Int64} {a1 a4 a5 a6 : Nat → Int32} {a7 : Nat → Int64} {b1 b5 : Nat → Int32} (h : mv_Y q c r a1 a4 a5 a6 a7 b1 b5) (hz : b1 q = 0) : mv_Y (q + 1) c r a1 a4 a5 a6 a7 b1 b5 := by
  obtain ⟨h1, h2, h3, h4⟩ := h
  refine ⟨h1, fun v hv => h2 v (by omega), fun v hv hb => ?_, fun v hv hb => ?_⟩
  · by_cases e : v = q
    · subst e; exact absurd hz hb
    · exact h3 v (by omega) hb
  · by_cases e : v = q
    · subst e
      exact Or.inl ((h2 v (Nat.le_refl v)).symm.trans hz)
    · exact h4 v (by omega) hb
theorem mv_Y_end {q : Nat} {c r : Int64} {a1 a4 a5 a6 : Nat → Int32} {a7 : Nat → Int64} {b1 b5 : Nat → Int32} (h : mv_Y q c r a1 a4 a5 a6 a7 b1 b5) (ho : mv_over c r (b5 q) = true) : mv_Y q c r a1 a4 a5 a6 a7 b1 (upd b5 q 0) := by
  obtain ⟨h1, h2, h3, h4⟩ := h
  refine ⟨mv_Z_step h1 ho, h2, fun v hv hb => ?_, h4⟩
  rw [pk_un (show v ≠ q by omega)]
  exact h3 v hv hb
theorem mv_Y_dead {q : Nat} {c r : Int64} {a1 a4 a5 a6 : Nat → Int32} {a7 : Nat → Int64} {b1 b5 : Nat → Int32} (h : mv_Y q c r a1 a4 a5 a6 a7 b1 b5) (hd : mv_se a4 b5 c q = false) : mv_Y (q + 1) c r a1 a4 a5 a6 a7 (upd b1 q 0) b5 := by
  obtain ⟨h1, h2, h3, h4⟩ := h
  refine ⟨h1, fun v hv => ?_, fun v hv hb => ?_, fun v hv hb => ?_⟩
  · rw [pk_un (show v ≠ q by omega)]
    exact h2 v (by omega)
  · by_cases e : v = q
    · subst e
      rw [pk_us] at hb
      exact absurd rfl hb
    · rw [pk_un e] at hb
      exact h3 v (by omega) hb
  · by_cases e : v = q
    · subst e
      rw [mv_Z_se h1 v] at hd
      exact Or.inr hd
    · rw [pk_un e] at hb
      exact h4 v (by omega) hb
theorem mv_Y_keep {q : Nat} {c r : Int64} {a1 a4 a5 a6 : Nat → Int32} {a7 : Nat → Int64} {b1 b5 : Nat → Int32} (h : mv_Y q c r a1 a4 a5 a6 a7 b1 b5) (hu : b1 q ≠ 0) (hd : mv_kp c a4 a6 a7 (b5 q) q) : mv_Y (q + 1) c r a1 a4 a5 a6 a7 (upd b1 q 1) b5 := by
  obtain ⟨h1, h2, h3, h4⟩ := h
  refine ⟨h1, fun v hv => ?_, fun v hv hb => ?_, fun v hv hb => ?_⟩
  · rw [pk_un (show v ≠ q by omega)]
    exact h2 v (by omega)
  · by_cases e : v = q
    · subst e
      exact ⟨fun z => hu ((h2 v (Nat.le_refl v)).trans z), hd⟩
    · rw [pk_un e] at hb
      exact h3 v (by omega) hb
  · by_cases e : v = q
    · subst e
      rw [pk_us] at hb
      exact absurd hb (by decide)
    · rw [pk_un e] at hb
      exact h4 v (by omega) hb
theorem mv_U_skip {q s : Nat} {c x : Int64} {b1 a4 b5 a6 : Nat → Int32} {a7 : Nat → Int64} {d4 d5 : Nat → Int32} (h : mv_U q s c b1 a4 b5 a6 a7 d4 d5 x) (hz : b1 q = 0) : mv_U (q + 1) s c b1 a4 b5 a6 a7 d4 d5 x := by
  obtain ⟨h1, h2⟩ := h
  refine ⟨fun v hv => h1 v (by omega), fun v hv hb => ?_⟩
  by_cases e : v = q
  · subst e; exact absurd hz hb
  · exact h2 v (by omega) hb
theorem mv_U_step {q s : Nat} {c x : Int64} {b1 a4 b5 a6 : Nat → Int32} {a7 : Nat → Int64} {d4 d5 : Nat → Int32} {n4 n5 : Int32} (h : mv_U q s c b1 a4 b5 a6 a7 d4 d5 x) (hs : s ≤ 62)
    (r4 : mv_Rel s c a6 a7 (a4 q) n4) (r5 : mv_Rel s c a6 a7 (b5 q) n5) (g4 : ∃ k, k ≤ s ∧ n4 = nI k) (g5 : ∃ k, k ≤ s ∧ n5 = nI k) :
    mv_U (q + 1) s c b1 a4 b5 a6 a7 (upd d4 q n4) (upd d5 q n5) ((x ||| mv_bit n4) ||| mv_bit n5) := by
  obtain ⟨h1, h2⟩ := h
  refine ⟨fun v hv => ?_, fun v hv hb => ?_⟩
  · rw [pk_un (show v ≠ q by omega), pk_un (show v ≠ q by omega)]
    exact h1 v (by omega)
  · by_cases e : v = q
    · subst e
      rw [pk_us, pk_us]
      refine ⟨r4, r5, ?_, ?_⟩
      · obtain ⟨k, k1, rfl⟩ := g4
        rw [mv_bt_or, mv_bt_or, mv_bt_self (by omega)]; simp
      · obtain ⟨k, k1, rfl⟩ := g5
        rw [mv_bt_or, mv_bt_self (by omega)]; simp
    · rw [pk_un e, pk_un e]
      obtain ⟨f1, f2, f3, f4⟩ := h2 v (by omega) hb
      refine ⟨f1, f2, ?_, ?_⟩
      · rw [mv_bt_or, mv_bt_or, f3]; rfl
      · rw [mv_bt_or, mv_bt_or, f4]; rfl
/-! ===== the methods ===== -/
section
variable {c r : Int64} {a1 a2 a3 a4 a5 a6 : Nat → Int32} {a7 : Nat → Int64} {a8 a9 a10 a11 a12 : Nat → Int32}
theorem mv_overw {post : Int32 → Prop} {n : Int32} (h1 : mv_over c r n = true → post 1) (h0 : mv_over c r n = false → post 0) : wpX_over post (c, r, a1, a2, a3, a4, a5, a6, a7, a8, a9, a10, a11, a12) n :=
  br_c (fun e => h0 (by simp [mv_over, e])) (fun e => mv_inw (fun g => br_f (by decide) (h0 (by simp [mv_over, g]))) (fun g => br_t rfl (h1 (by simp [mv_over, e, g]))))
theorem mv_flushw {post : St1 → Prop} (H : ∀ b5, mv_Z c r a5 b5 → post (c, r, a1, a2, a3, a4, b5, a6, a7, a8, a9, a10, a11, a12)) : wpX_flush post (c, r, a1, a2, a3, a4, a5, a6, a7, a8, a9, a10, a11, a12) := by
  have K : ∀ k q b5, q + k = 96 → mv_Z c r a5 b5 → wX_flush_2 post c r (k + 1) (nI q) a1 a2 a3 a4 b5 a6 a7 a8 a9 a10 a11 a12 := by
    intro k
    induction k with
    | zero =>
      intro q b5 hq g
      obtain rfl : q = 96 := by omega
      exact br_t (by decide) (H b5 g)
    | succ k ih =>
      intro q b5 hq g
      have hv : vp_in (nI q) 96 := vp_in_nI (by omega) (by decide)
      refine br_f (nI_ge (b := 96) (by omega) (by decide)) ⟨hv, ?_⟩
      rw [nI_clamp (show q < 2 ^ 31 by omega)]
      exact br_c (fun _ => nm_r (nI_1 q) (ih (q + 1) b5 (by omega) g)) (fun _ => ⟨hv, mv_overw (fun o => br_f (by decide) ⟨hv, nm_e (nm_r (nI_1 q) (ih (q + 1) _ (by omega) (mv_Z_step g o)))⟩) (fun o => br_t rfl (nm_r (nI_1 q) (ih (q + 1) b5 (by omega) g)))⟩)
  exact ⟨97, K 96 0 a5 rfl (fun v => Or.inl rfl)⟩
theorem mv_deadw {post : Int32 → Prop} {x : Int32} (hx : vp_in x 96) (h1 : mv_se a4 a5 c x.toNatClampNeg = false → post 1) (h0 : mv_kp c a4 a6 a7 (a5 x.toNatClampNeg) x.toNatClampNeg → post 0) : wpX_dead post (c, r, a1, a2, a3, a4, a5, a6, a7, a8, a9, a10, a11, a12) x := by
  have D : wX_dead_39 post x c r a1 a2 a3 a4 a5 a6 a7 a8 a9 a10 a11 a12 := by
    refine ⟨hx, br_c (fun e => h0 (fun z => absurd e z)) (fun e => ⟨hx, mv_inw (fun g5 => br_f (by decide) ⟨hx, mv_inw (fun g4 => br_f (by decide) ?_) (fun g4 => br_t rfl (h0 (fun _ _ z => absurd (z.symm.trans g4) (by decide))))⟩) (fun g5 => br_t rfl (h0 (fun _ z _ => ?_)))⟩)⟩
    · have K : ∀ k q, q + k = 4 → wX_dead_86 post x c r a1 a2 a3 a4 a5 a6 a7 a8 a9 a10 a11 a12 (k + 1) (nI q) := by
        intro k
        induction k with
        | zero =>
          intro q hq
          obtain rfl : q = 4 := by omega
          exact br_t (by decide) (h1 (by simp [mv_se, e, g5]))
        | succ k ih =>
          intro q hq
          have hv : vp_in (nI q) 4 := vp_in_nI (by omega) (by decide)
          have st := ih (q + 1) (by omega)
          refine br_f (nI_ge (b := 4) (by omega) (by decide)) ⟨hv, ?_⟩
          rw [nI_clamp (show q < 2 ^ 31 by omega)]
          refine br_c (fun _ => nm_r (nI_1 q) st) (fun g6 => ⟨hv, mv_seesw hx (fun gs => br_f (by decide) (h0 (fun _ _ _ => ⟨q, by omega, g6, ?_⟩))) (fun _ => br_t rfl (nm_r (nI_1 q) st))⟩)
          unfold mv_se at gs
          simp [e] at gs
          exact gs.2
      exact ⟨5, K 4 0 rfl⟩
    · unfold mv_in at g5
      rw [z] at g5
      simp at g5
  refine ⟨hx, mv_overw (fun o => br_f (by decide) (h1 ?_)) (fun o => br_t rfl ⟨hx, hx, br_c (fun e => ⟨hx, br_c (fun _ => D) (fun nz => h1 ?_)⟩) (fun _ => D)⟩)⟩
  · obtain ⟨o1, o2, o3⟩ := mv_over_c o
    simp [mv_se, mv_in, o1, o2]
  · unfold mv_se
    rw [← e]
    cases mv_in c (a4 x.toNatClampNeg)
    · rw [Bool.false_and]
    · simp [nz]
theorem mv_ptw {post : Int32 → Prop} {n : Int32} (h : post (mv_pt a6 a7 n)) : wpX_pattern post (c, r, a1, a2, a3, a4, a5, a6, a7, a8, a9, a10, a11, a12) n := by
  have K : ∀ k q, q + k = 4 → wX_pattern_4 post n c r a1 a2 a3 a4 a5 a6 a7 a8 a9 a10 a11 a12 (k + 1) (mv_pv (mv_pb a6 a7 n) q) (nI q) := by
    intro k
    induction k with
    | zero =>
      intro q hq
      obtain rfl : q = 4 := by omega
      exact br_t (by decide) h
    | succ k ih =>
      intro q hq
      have hv : vp_in (nI q) 4 := vp_in_nI (by omega) (by decide)
      have st := ih (q + 1) (by omega)
      have T : mv_pb a6 a7 n q = true → wX_pattern_32 post (wX_pattern_4 post n c r a1 a2 a3 a4 a5 a6 a7 a8 a9 a10 a11 a12 (k + 1)) n (mv_pv (mv_pb a6 a7 n) q) (nI q) c r a1 a2 a3 a4 a5 a6 a7 a8 a9 a10 a11 a12 := by
        intro g
        rw [mv_pv_t g] at st
        exact nm_e (nm_r (nI_1 q) st)
      have F : mv_pb a6 a7 n q = false → wX_pattern_4 post n c r a1 a2 a3 a4 a5 a6 a7 a8 a9 a10 a11 a12 (k + 1) (mv_pv (mv_pb a6 a7 n) q) (nI (q + 1)) := by
        intro g
        rw [mv_pv_f g] at st
        exact st
      refine br_f (nI_ge (b := 4) (by omega) (by decide)) ⟨hv, ?_⟩
      rw [nI_clamp (show q < 2 ^ 31 by omega)]
      exact br_c (fun g => T (by simp [mv_pb, g])) (fun g => ⟨hv, mv_inw (fun g2 => br_f (by decide) (T (by simp [mv_pb, g2]))) (fun g2 => br_t rfl (nm_r (nI_1 q) (F (by simp [mv_pb, g, g2]))))⟩)
  exact ⟨5, K 4 0 rfl⟩
theorem mv_stw {post : Int32 → St1 → Prop} {s : Nat} {n : Int32} (h12 : mv_ok12 s c a6 a7 a12) (hn : ∃ k, k ≤ s ∧ n = nI k) (H : ∀ n' b12, mv_ok12 s c a6 a7 b12 → mv_Rel s c a6 a7 n n' → post n' (c, r, a1, a2, a3, a4, a5, a6, a7, a8, a9, a10, a11, b12)) : wpX_standing post (c, r, a1, a2, a3, a4, a5, a6, a7, a8, a9, a10, a11, a12) n := by
  refine br_c (fun e => H n a12 h12 (Or.inl ⟨e, e⟩)) (fun e => br_c (fun g => H n a12 h12 (Or.inr (Or.inl ⟨e, mv_e0.mp g, rfl⟩))) (fun g => ?_))
  have hb : mv_bt c n = true := by
    cases hb : mv_bt c n
    · exact absurd (mv_e0.mpr hb) g
    · rfl
  obtain ⟨k, k1, rfl⟩ := hn
  have k0 : 1 ≤ k := by
    rcases Nat.eq_zero_or_pos k with z | z
    · subst z; exact absurd nI_0 e
    · exact z
  refine mv_ptw (br_c (fun g => H 0 a12 h12 (Or.inr (Or.inr ⟨e, hb, Or.inl ⟨rfl, g⟩⟩))) (fun g15 => ?_))
  obtain ⟨p, hp, ep⟩ := mv_pt_in a6 a7 (nI k)
  have hv : vp_in (mv_pt a6 a7 (nI k)) 16 := by rw [ep]; exact vp_in_nI hp (by decide)
  have ec : (mv_pt a6 a7 (nI k)).toNatClampNeg = p := by rw [ep]; exact nI_clamp (by omega)
  refine ⟨hv, ?_⟩
  rw [ec]
  refine br_c (fun g0 => ⟨hv, nm_e ⟨hv, ?_⟩⟩) (fun g0 => ⟨hv, ?_⟩)
  · rw [pk_us]
    refine H _ _ (fun q hq => ?_) (Or.inr (Or.inr ⟨e, hb, Or.inr ⟨k, k0, k1, rfl, hb, rfl⟩⟩))
    by_cases eq : q = p
    · subst eq
      rw [pk_us]
      exact Or.inr ⟨k, k0, k1, rfl, hb, ep⟩
    · rw [pk_un eq]
      exact h12 q hq
  · rcases h12 p hp with z | ⟨k', z1, z2, z3, z4, z5⟩
    · exact absurd z g0
    · exact H _ _ h12 (Or.inr (Or.inr ⟨e, hb, Or.inr ⟨k', z1, z2, z3, z4, z5.trans ep.symm⟩⟩))
theorem mv_stw2 {post : Int32 → St1 → Prop} {s : Nat} {n : Int32} (h12 : mv_ok12 s c a6 a7 a12) (hn : ∃ k, k ≤ s ∧ n = nI k) (H : ∀ n' b12, mv_ok12 s c a6 a7 b12 → mv_Rel s c a6 a7 n n' → post n' (c, r, a1, a2, a3, a4, a5, a6, a7, a8, a9, a10, a11, b12)) : wpX_standing_2 post (c, r, a1, a2, a3, a4, a5, a6, a7, a8, a9, a10, a11, a12) n := by
  refine br_c (fun e => H n a12 h12 (Or.inl ⟨e, e⟩)) (fun e => br_c (fun g => H n a12 h12 (Or.inr (Or.inl ⟨e, mv_e0.mp g, rfl⟩))) (fun g => ?_))
  have hb : mv_bt c n = true := by
    cases hb : mv_bt c n
    · exact absurd (mv_e0.mpr hb) g
    · rfl
  obtain ⟨k, k1, rfl⟩ := hn
  have k0 : 1 ≤ k := by
    rcases Nat.eq_zero_or_pos k with z | z
    · subst z; exact absurd nI_0 e
    · exact z
  refine mv_ptw (br_c (fun g => H 0 a12 h12 (Or.inr (Or.inr ⟨e, hb, Or.inl ⟨rfl, g⟩⟩))) (fun g15 => ?_))
  obtain ⟨p, hp, ep⟩ := mv_pt_in a6 a7 (nI k)
  have hv : vp_in (mv_pt a6 a7 (nI k)) 16 := by rw [ep]; exact vp_in_nI hp (by decide)
  have ec : (mv_pt a6 a7 (nI k)).toNatClampNeg = p := by rw [ep]; exact nI_clamp (by omega)
  refine ⟨hv, ?_⟩
  rw [ec]
  refine br_c (fun g0 => ⟨hv, nm_e ⟨hv, ?_⟩⟩) (fun g0 => ⟨hv, ?_⟩)
  · rw [pk_us]
    refine H _ _ (fun q hq => ?_) (Or.inr (Or.inr ⟨e, hb, Or.inr ⟨k, k0, k1, rfl, hb, rfl⟩⟩))
    by_cases eq : q = p
    · subst eq
      rw [pk_us]
      exact Or.inr ⟨k, k0, k1, rfl, hb, ep⟩
    · rw [pk_un eq]
      exact h12 q hq
  · rcases h12 p hp with z | ⟨k', z1, z2, z3, z4, z5⟩
    · exact absurd z g0
    · exact H _ _ h12 (Or.inr (Or.inr ⟨e, hb, Or.inr ⟨k', z1, z2, z3, z4, z5.trans ep.symm⟩⟩))
theorem mv_t179 {post : St1 → Prop} {x : Int64} (H : ∀ b7, (∀ t, t < 4 → b7 t = a7 t &&& x) → post (c, r, a1, a2, a3, a4, a5, a6, b7, a8, a9, a10, a11, a12)) : ∃ n, wX_tidy_179 post x c r n 0 a1 a2 a3 a4 a5 a6 a7 a8 a9 a10 a11 a12 := by
  have K : ∀ k q b7, q + k = 4 → (∀ t, t < q → b7 t = a7 t &&& x) → (∀ t, q ≤ t → b7 t = a7 t) → wX_tidy_179 post x c r (k + 1) (nI q) a1 a2 a3 a4 a5 a6 b7 a8 a9 a10 a11 a12 := by
    intro k
    induction k with
    | zero =>
      intro q b7 hq g1 g2
      obtain rfl : q = 4 := by omega
      exact br_t (by decide) (H b7 g1)
    | succ k ih =>
      intro q b7 hq g1 g2
      have hv : vp_in (nI q) 4 := vp_in_nI (by omega) (by decide)
      refine br_f (nI_ge (b := 4) (by omega) (by decide)) ⟨hv, hv, ?_⟩
      rw [nI_clamp (show q < 2 ^ 31 by omega)]
      refine nm_e (nm_r (nI_1 q) (ih (q + 1) _ (by omega) (fun t ht => ?_) (fun t ht => ?_)))
      · by_cases e : t = q
        · subst e; rw [pk_uLs, g2 t (Nat.le_refl t)]
        · rw [pk_uLn e]; exact g1 t (by omega)
      · rw [pk_uLn (show t ≠ q by omega)]; exact g2 t (by omega)
  exact ⟨5, K 4 0 a7 rfl (fun t ht => absurd ht (by omega)) (fun t _ => rfl)⟩
theorem mv_t90 {post : St1 → Prop} {s : Nat} {x0 : Int64} (hs : s ≤ 62) (h12 : mv_ok12 s c a6 a7 a12) (hB : mv_B s a1 a4 a5)
    (H : ∀ d4 d5 b12 x b7, mv_U 96 s c a1 a4 a5 a6 a7 d4 d5 x → (∀ t, t < 4 → b7 t = a7 t &&& x) → post (c &&& x, r, a1, a2, a3, d4, d5, a6, b7, a8, a9, a10, a11, b12)) : ∃ n, wX_tidy_90 post n x0 0 c r a1 a2 a3 a4 a5 a6 a7 a8 a9 a10 a11 a12 := by
  have K : ∀ k q x d4 d5 b12, q + k = 96 → mv_ok12 s c a6 a7 b12 → mv_U q s c a1 a4 a5 a6 a7 d4 d5 x → wX_tidy_90 post (k + 1) x (nI q) c r a1 a2 a3 d4 d5 a6 a7 a8 a9 a10 a11 b12 := by
    intro k
    induction k with
    | zero =>
      intro q x d4 d5 b12 hq h12 hU
      obtain rfl : q = 96 := by omega
      exact br_t (by decide) (nm_e (mv_t179 (fun b7 g => H d4 d5 b12 x b7 hU g)))
    | succ k ih =>
      intro q x d4 d5 b12 hq h12 hU
      have hv : vp_in (nI q) 96 := vp_in_nI (by omega) (by decide)
      obtain ⟨e4, e5⟩ := hU.1 q (Nat.le_refl q)
      refine br_f (nI_ge (b := 96) (by omega) (by decide)) ⟨hv, ?_⟩
      rw [nI_clamp (show q < 2 ^ 31 by omega)]
      refine br_c (fun g => nm_r (nI_1 q) (ih (q + 1) x d4 d5 b12 (by omega) h12 (mv_U_skip hU g))) (fun g => ⟨hv, ?_⟩)
      obtain ⟨B4, B5⟩ := hB q (by omega) g
      rw [e4]
      refine mv_stw h12 B4 (fun n4 b12' o1 r4 => ⟨hv, nm_e ⟨hv, ?_⟩⟩)
      rw [e5]
      refine mv_stw2 o1 B5 (fun n5 b12'' o2 r5 => ⟨hv, nm_e ⟨hv, mv_bitw ⟨hv, mv_bitw (nm_e (nm_r (nI_1 q) ?_))⟩⟩⟩)
      rw [pk_us, pk_us]
      exact ih (q + 1) _ _ _ b12'' (by omega) o2 (mv_U_step hU hs r4 r5 (mv_Rel_rg r4 B4) (mv_Rel_rg r5 B5))
  exact ⟨97, K 96 0 x0 a4 a5 a12 rfl h12 ⟨fun v _ => ⟨rfl, rfl⟩, fun v hv => absurd hv (by omega)⟩⟩
theorem mv_t28 {post : St1 → Prop} {s : Nat} {x0 : Int64} (hs : s ≤ 62) (h12 : mv_ok12 s c a6 a7 a12) (hB : mv_B s a1 a4 a5)
    (H : ∀ b1 b5 d4 d5 b12 x b7, mv_Y 96 c r a1 a4 a5 a6 a7 b1 b5 → mv_U 96 s c b1 a4 b5 a6 a7 d4 d5 x → (∀ t, t < 4 → b7 t = a7 t &&& x) → post (c &&& x, r, b1, a2, a3, d4, d5, a6, b7, a8, a9, a10, a11, b12)) : ∃ n, wX_tidy_28 post x0 c r n 0 a1 a2 a3 a4 a5 a6 a7 a8 a9 a10 a11 a12 := by
  have K : ∀ k q b1 b5, q + k = 96 → mv_Y q c r a1 a4 a5 a6 a7 b1 b5 → wX_tidy_28 post x0 c r (k + 1) (nI q) b1 a2 a3 a4 b5 a6 a7 a8 a9 a10 a11 a12 := by
    intro k
    induction k with
    | zero =>
      intro q b1 b5 hq hY
      obtain rfl : q = 96 := by omega
      refine br_t (by decide) (mv_t90 hs h12 (fun v g1 g2 => ?_) (fun d4 d5 b12 x b7 hU g => H b1 b5 d4 d5 b12 x b7 hY hU g))
      obtain ⟨B4, B5⟩ := hB v g1 (hY.2.2.1 v g1 g2).1
      refine ⟨B4, ?_⟩
      rcases hY.1 v with e | ⟨e, _⟩
      · rw [e]; exact B5
      · rw [e]; exact ⟨0, by omega, rfl⟩
    | succ k ih =>
      intro q b1 b5 hq hY
      have hv : vp_in (nI q) 96 := vp_in_nI (by omega) (by decide)
      have eq : (nI q).toNatClampNeg = q := nI_clamp (by omega)
      have T : ∀ e5, b1 q ≠ 0 → mv_Y q c r a1 a4 a5 a6 a7 b1 e5 → wX_tidy_63 post (wX_tidy_28 post x0 c r (k + 1)) x0 (nI q) c r b1 a2 a3 a4 e5 a6 a7 a8 a9 a10 a11 a12 := by
        intro e5 g hY5
        unfold wX_tidy_63
        refine mv_deadw hv (fun d => br_f (by decide) ⟨hv, ?_⟩) (fun d => br_t rfl ⟨hv, ?_⟩)
        · rw [eq] at d ⊢
          exact nm_e (nm_r (nI_1 q) (ih (q + 1) _ e5 (by omega) (mv_Y_dead hY5 d)))
        · rw [eq] at d ⊢
          exact nm_e (nm_r (nI_1 q) (ih (q + 1) _ e5 (by omega) (mv_Y_keep hY5 g d)))
      refine br_f (nI_ge (b := 96) (by omega) (by decide)) ⟨hv, ?_⟩
      rw [eq]
      exact br_c (fun g => nm_r (nI_1 q) (ih (q + 1) b1 b5 (by omega) (mv_Y_skip hY g))) (fun g => ⟨hv, mv_overw (fun o => br_f (by decide) ⟨hv, nm_e (T _ g (mv_Y_end hY o))⟩) (fun o => br_t rfl (T b5 g hY))⟩)
  exact ⟨97, K 96 0 a1 a5 rfl ⟨fun v => Or.inl rfl, fun v _ => rfl, fun v hv => absurd hv (by omega), fun v hv => absurd hv (by omega)⟩⟩
theorem mv_tidyw {post : St1 → Prop} {s i : Nat} (hI : mv_I s i c r a1 a2 a4 a5 a6 a7 a8 a9 a10 a11) (hs : s ≤ 62) (H : ∀ u, mv_IU s i u → mv_RU u = mv_RU (c, r, a1, a2, a3, a4, a5, a6, a7, a8, a9, a10, a11, a12) → post u) : wpX_tidy post (c, r, a1, a2, a3, a4, a5, a6, a7, a8, a9, a10, a11, a12) := by
  have K : ∀ k q b12, q + k = 16 → (∀ p, p < q → b12 p = 0) → wX_tidy_2 post c r (k + 1) (nI q) a1 a2 a3 a4 a5 a6 a7 a8 a9 a10 a11 b12 := by
    intro k
    induction k with
    | zero =>
      intro q b12 hq g
      obtain rfl : q = 16 := by omega
      refine br_t (by decide) (mv_t28 hs (fun p hp => Or.inl (g p hp)) hI.2.2.1 (fun b1 b5 d4 d5 b12' x b7 hY hU h7 => H _ (mv_I_tidy hI hs hY hU h7) ?_))
      exact mv_rows_congr (fun y v hv => mv_vi_tidy hY hU y hv)
    | succ k ih =>
      intro q b12 hq g
      have hv : vp_in (nI q) 16 := vp_in_nI (by omega) (by decide)
      refine br_f (nI_ge (b := 16) (by omega) (by decide)) ⟨hv, ?_⟩
      rw [nI_clamp (show q < 2 ^ 31 by omega)]
      refine nm_e (nm_r (nI_1 q) (ih (q + 1) _ (by omega) (fun p hp => ?_)))
      by_cases e : p = q
      · subst e; exact pk_us
      · rw [pk_un e]; exact g p (by omega)
  exact ⟨17, K 16 0 a12 rfl (fun p hp => absurd hp (by omega))⟩
theorem mv_vacw {post : St1 → Prop} {s i : Nat} (hI : mv_I s i c r a1 a2 a4 a5 a6 a7 a8 a9 a10 a11) (hi : i ≤ 64) (H : ∀ u, mv_ok i (c, r, a1, a2, a3, a4, a5, a6, a7, a8, a9, a10, a11, a12) u → post u) : wpX_vacuum post (c, r, a1, a2, a3, a4, a5, a6, a7, a8, a9, a10, a11, a12) := by
  have hs : s ≤ 62 := mv_s62 hI.1 hI.2.2.2.2.2.2.2 (by omega)
  unfold wpX_vacuum
  refine mv_tidyw hI hs (fun u g1 g2 => ?_)
  obtain ⟨c', r', a1', a2', a3', a4', a5', a6', a7', a8', a9', a10', a11', a12'⟩ := u
  exact H _ ⟨s, mv_I_s g1, g2⟩
theorem mv_flw {post : St1 → Prop} {s i : Nat} (hI : mv_I s i c r a1 a2 a4 a5 a6 a7 a8 a9 a10 a11) (hi : i ≤ 64) (H : ∀ u, mv_ok i (c, r, a1, a2, a3, a4, a5, a6, a7, a8, a9, a10, a11, a12) u → post u) : wpX_flush post (c, r, a1, a2, a3, a4, a5, a6, a7, a8, a9, a10, a11, a12) := by
  have hs : s ≤ 62 := mv_s62 hI.1 hI.2.2.2.2.2.2.2 (by omega)
  exact mv_flushw (fun b5 hZ => H _ ⟨s, mv_I_s (mv_I_flush hI hs hZ), mv_rows_congr (fun y v _ => mv_vi_flush hZ y v)⟩)
end
end
section
/-! ===== the law's look at the whole: what it adds up ===== -/
def mv_gv (a3 : Nat → Int32) (w : Int32) : Int32 := if 0 ≤ w then a3 w.toNatClampNeg else 0
def mv_sm (g : Nat → Int32) : Nat → Int32
  | 0 => 0
  | k + 1 => mv_sm g k + g k
def mv_fd (P : Nat → Bool) : Nat → Nat → Int32
  | 0, _ => -3
  | k + 1, i => if P i = true then nI i else mv_fd P k (i + 1)
theorem mv_fd_t {P : Nat → Bool} {k i : Nat} (h : P i = true) : mv_fd P (k + 1) i = nI i := if_pos h
theorem mv_fd_f {P : Nat → Bool} {k i : Nat} (h : P i = false) : mv_fd P (k + 1) i = mv_fd P k (i + 1) := if_neg (by rw [h]; decide)
/-- a counter that goes down to -1 -/
def mv_d : Nat → Int32
  | 0 => -1
  | k + 1 => nI k
theorem mv_d_p (k : Nat) : nI k + (-1) = mv_d k := by
  cases k with
  | zero => decide
  | succ k => exact pk_m1 k
section
variable {c r : Int64} {a1 a2 a3 a4 a5 a6 : Nat → Int32} {a7 : Nat → Int64} {a8 a9 a10 a11 a12 : Nat → Int32}
theorem mv_has_cl {post : Int32 → Prop} {t : Nat} {y : Int32} (ht : t < 4) (h6 : a6 t = 0) (h : post 0) : wpX_has post (c, r, a1, a2, a3, a4, a5, a6, a7, a8, a9, a10, a11, a12) (nI t) y := by
  unfold wpX_has
  exact mv_rr_cl ht h6 (br_f (by decide) h)
theorem mv_get_cl {post : Int32 → Prop} {t : Nat} {y : Int32} (ht : t < 4) (h6 : a6 t = 0) (h : post 0) : wpX_get post (c, r, a1, a2, a3, a4, a5, a6, a7, a8, a9, a10, a11, a12) (nI t) y := by
  unfold wpX_get
  exact mv_rr_cl ht h6 (br_f (by decide) h)
theorem mv_count_cl {post : Int32 → Prop} {t : Nat} (ht : t < 4) (h6 : a6 t = 0) (h : post (-2)) : wpX_count post (c, r, a1, a2, a3, a4, a5, a6, a7, a8, a9, a10, a11, a12) (nI t) := by
  unfold wpX_count
  exact mv_rf_cl ht h6 (br_f (by decide) h)
theorem mv_count_bad {post : Int32 → Prop} {t : Int32} (ht : t < 0 ∨ ¬ t < 4) (h : post (-1)) : wpX_count post (c, r, a1, a2, a3, a4, a5, a6, a7, a8, a9, a10, a11, a12) t := by
  unfold wpX_count
  exact mv_rf_bad ht (br_f (by decide) h)
theorem mv_sum_cl {post : Int32 → Prop} {t : Nat} (ht : t < 4) (h6 : a6 t = 0) (h : post 0) : wpX_sum post (c, r, a1, a2, a3, a4, a5, a6, a7, a8, a9, a10, a11, a12) (nI t) := by
  unfold wpX_sum
  exact mv_rf_cl ht h6 (br_f (by decide) h)
theorem mv_hasw {post : Int32 → Prop} {t j : Nat} (hL : mv_L a6 a8) (ht : t < 4) (h6 : a6 t ≠ 0) (hj : j < 8) (h1 : 0 ≤ mv_vo a1 a2 a4 a5 a7 a8 a9 t (nI j) → post 1) (h0 : ¬ 0 ≤ mv_vo a1 a2 a4 a5 a7 a8 a9 t (nI j) → post 0) : wpX_has post (c, r, a1, a2, a3, a4, a5, a6, a7, a8, a9, a10, a11, a12) (nI t) (nI j) := by
  unfold wpX_has
  exact mv_rr_op ht h6 hj (br_t rfl (mv_vow hL ht h6 (br_c (fun g => h0 (mv_nle.mpr g)) (fun g => h1 (mv_nlt.mp g)))))
theorem mv_getw {post : Int32 → Prop} {t j : Nat} (hL : mv_L a6 a8) (ht : t < 4) (h6 : a6 t ≠ 0) (hj : j < 8) (h : post (mv_gv a3 (mv_vo a1 a2 a4 a5 a7 a8 a9 t (nI j)))) : wpX_get post (c, r, a1, a2, a3, a4, a5, a6, a7, a8, a9, a10, a11, a12) (nI t) (nI j) := by
  unfold wpX_get
  refine mv_rr_op ht h6 hj (br_t (by decide) (mv_vow hL ht h6 (br_c (fun g => ⟨mv_V_in g, ?_⟩) (fun g => ?_))))
  · unfold mv_gv at h
    rw [if_pos g] at h
    exact h
  · unfold mv_gv at h
    rw [if_neg g] at h
    exact h
theorem mv_countw {post : Int32 → Prop} {t : Nat} (hL : mv_L a6 a8) (ht : t < 4) (h6 : a6 t ≠ 0) (h : post (nI (mv_rn (fun k => decide (0 ≤ mv_vo a1 a2 a4 a5 a7 a8 a9 t (nI k))) 8))) : wpX_count post (c, r, a1, a2, a3, a4, a5, a6, a7, a8, a9, a10, a11, a12) (nI t) := by
  have K : ∀ k q, q + k = 8 → wX_count_17 post (nI t) c r a1 a2 a3 a4 a5 a6 a7 a8 a9 a10 a11 a12 (k + 1) (nI (mv_rn (fun k => decide (0 ≤ mv_vo a1 a2 a4 a5 a7 a8 a9 t (nI k))) q)) (nI q) := by
    intro k
    induction k with
    | zero =>
      intro q hq
      obtain rfl : q = 8 := by omega
      exact br_t (by decide) h
    | succ k ih =>
      intro q hq
      have st := ih (q + 1) (by omega)
      refine br_f (nI_ge (b := 8) (by omega) (by decide)) (mv_vow hL ht h6 (br_c (fun g => ?_) (fun g => ?_)))
      · rw [mv_rn_t (decide_eq_true g)] at st
        exact nm_r (nI_1 _) (nm_r (nI_1 q) st)
      · rw [mv_rn_f (decide_eq_false g)] at st
        exact nm_r (nI_1 q) st
  unfold wpX_count
  exact mv_rf_op ht h6 (br_t (by decide) ⟨9, K 8 0 rfl⟩)
theorem mv_sumw {post : Int32 → Prop} {t : Nat} (hL : mv_L a6 a8) (ht : t < 4) (h6 : a6 t ≠ 0) (h : post (mv_sm (fun k => mv_gv a3 (mv_vo a1 a2 a4 a5 a7 a8 a9 t (nI k))) 8)) : wpX_sum post (c, r, a1, a2, a3, a4, a5, a6, a7, a8, a9, a10, a11, a12) (nI t) := by
  have K : ∀ k q, q + k = 8 → wX_sum_17 post (nI t) c r a1 a2 a3 a4 a5 a6 a7 a8 a9 a10 a11 a12 (k + 1) (mv_sm (fun k => mv_gv a3 (mv_vo a1 a2 a4 a5 a7 a8 a9 t (nI k))) q) (nI q) := by
    intro k
    induction k with
    | zero =>
      intro q hq
      obtain rfl : q = 8 := by omega
      exact br_t (by decide) h
    | succ k ih =>
      intro q hq
      have st := ih (q + 1) (by omega)
      have es : mv_sm (fun k => mv_gv a3 (mv_vo a1 a2 a4 a5 a7 a8 a9 t (nI k))) (q + 1) = mv_sm (fun k => mv_gv a3 (mv_vo a1 a2 a4 a5 a7 a8 a9 t (nI k))) q + mv_gv a3 (mv_vo a1 a2 a4 a5 a7 a8 a9 t (nI q)) := rfl
      rw [es] at st
      refine br_f (nI_ge (b := 8) (by omega) (by decide)) (mv_vow hL ht h6 (br_c (fun g => ⟨mv_V_in g, ?_⟩) (fun g => ?_)))
      · have e : mv_gv a3 (mv_vo a1 a2 a4 a5 a7 a8 a9 t (nI q)) = a3 (mv_vo a1 a2 a4 a5 a7 a8 a9 t (nI q)).toNatClampNeg := if_pos g
        rw [e] at st
        exact nm_e (nm_r (nI_1 q) st)
      · have e : mv_gv a3 (mv_vo a1 a2 a4 a5 a7 a8 a9 t (nI q)) = 0 := if_neg g
        rw [e, Int32.add_zero] at st
        exact nm_r (nI_1 q) st
  unfold wpX_sum
  exact mv_rf_op ht h6 (br_t (by decide) ⟨9, K 8 0 rfl⟩)
def mv_cd (a3 a1 a2 a4 a5 : Nat → Int32) (a7 : Nat → Int64) (a8 a9 : Nat → Int32) (t k : Nat) : Bool :=
  decide (0 ≤ mv_vo a1 a2 a4 a5 a7 a8 a9 t (nI k)) && !decide (a3 (mv_vo a1 a2 a4 a5 a7 a8 a9 t (nI k)).toNatClampNeg < 5)
theorem mv_findw {post : Int32 → Prop} {t : Nat} (hL : mv_L a6 a8) (ht : t < 4) (h6 : a6 t ≠ 0) (h : post (mv_fd (mv_cd a3 a1 a2 a4 a5 a7 a8 a9 t) 8 0)) : wpX_find post (c, r, a1, a2, a3, a4, a5, a6, a7, a8, a9, a10, a11, a12) (nI t) 0 5 := by
  have K : ∀ k q, q + k = 8 → post (mv_fd (mv_cd a3 a1 a2 a4 a5 a7 a8 a9 t) k q) → wX_find_26 post (nI t) 5 c r a1 a2 a3 a4 a5 a6 a7 a8 a9 a10 a11 a12 (k + 1) (nI q) := by
    intro k
    induction k with
    | zero =>
      intro q hq hp
      obtain rfl : q = 8 := by omega
      exact br_t (by decide) hp
    | succ k ih =>
      intro q hq hp
      have N : mv_cd a3 a1 a2 a4 a5 a7 a8 a9 t q = false → wX_find_26 post (nI t) 5 c r a1 a2 a3 a4 a5 a6 a7 a8 a9 a10 a11 a12 (k + 1) (nI (q + 1)) := by
        intro z
        rw [mv_fd_f z] at hp
        exact ih (q + 1) (by omega) hp
      refine br_f (nI_ge (b := 8) (by omega) (by decide)) (mv_vow hL ht h6 (br_c (fun g => nm_r (nI_1 q) (N ?_)) (fun g => ⟨mv_V_in (mv_nlt.mp g), br_c (fun g2 => nm_r (nI_1 q) (N ?_)) (fun g2 => ?_)⟩)))
      · unfold mv_cd
        rw [decide_eq_false (mv_nle.mpr g)]; rfl
      · unfold mv_cd
        rw [decide_eq_true g2]; simp
      · have z : mv_cd a3 a1 a2 a4 a5 a7 a8 a9 t q = true := by
          unfold mv_cd
          rw [decide_eq_true (mv_nlt.mp g), decide_eq_false g2]; rfl
        rw [mv_fd_t z] at hp
        exact hp
  unfold wpX_find
  exact mv_rf_op ht h6 (br_t (by decide) (br_t (by decide) ⟨9, K 8 0 rfl h⟩))
theorem mv_comw {post : Int32 → Prop} {q : Nat} (hq : q < 8) (h : ∀ x, (¬ x = 0 → mv_pr c a1 a2 a4 a5 q = true) → post x) : wpX_committed post (c, r, a1, a2, a3, a4, a5, a6, a7, a8, a9, a10, a11, a12) (nI q) := by
  refine br_f (nI_pos (by omega)) (br_t (nI_lt (b := 8) hq (by decide)) (mv_vfw (br_c (fun g => ⟨mv_V_in g, h _ (fun _ => decide_eq_true g)⟩) (fun g => h _ (fun z => absurd rfl z)))))
/-! ===== one transaction's look ===== -/
theorem mv_s46c {post : Int32 → Prop} {J : Int32 → Int32 → Prop} {x1 x2 x4 : Int32} {t : Nat} (ht : t < 4) (h6 : a6 t = 0) (HJ : J x1 (nI (t + 1))) : ∃ fu, wL_sound_46 post J x1 x2 (nI t) x4 0 c r a1 a2 a3 a4 a5 a6 a7 a8 a9 a10 a11 a12 fu 0 0 (-3) 7 := by
  have K : ∀ k, k ≤ 8 → wL_sound_46 post J x1 x2 (nI t) x4 0 c r a1 a2 a3 a4 a5 a6 a7 a8 a9 a10 a11 a12 (k + 1) 0 0 (-3) (mv_d k) := by
    intro k
    induction k with
    | zero =>
      intro _
      refine br_t (by decide) (br_t rfl (br_f (by decide) (mv_count_cl ht h6 (br_t rfl ?_))))
      unfold wL_sound_190
      exact mv_sum_cl ht h6 (br_t rfl (br_t rfl (br_t rfl (nm_r (nI_1 t) HJ))))
    | succ k ih =>
      intro hk
      refine br_f (nI_pos (n := k) (by omega)) (mv_has_cl ht h6 (mv_get_cl ht h6 (br_t rfl ?_)))
      exact nm_r (show (0 : Int32) + 0 = 0 by decide) (br_t rfl (br_t rfl (br_t rfl (nm_r (mv_d_p k) (ih (by omega))))))
  exact ⟨9, K 8 (by omega)⟩
theorem mv_s46 {post : Int32 → Prop} {J : Int32 → Int32 → Prop} {x1 x2 x4 : Int32} {t : Nat} (hL : mv_L a6 a8) (ht : t < 4) (h6 : a6 t ≠ 0) (h0 : ¬ x4 < 0) (h255 : ¬ 255 < x4) (hd : x1 &&& x4 = 0) (HJ : J (x1 ||| x4) (nI (t + 1))) :
    ∃ fu, wL_sound_46 post J x1 x2 (nI t) x4 1 c r a1 a2 a3 a4 a5 a6 a7 a8 a9 a10 a11 a12 fu 0 0 (-3) 7 := by
  have K : ∀ k m x6, k ≤ 8 → m + mv_rn (fun k => decide (0 ≤ mv_vo a1 a2 a4 a5 a7 a8 a9 t (nI k))) k = mv_rn (fun k => decide (0 ≤ mv_vo a1 a2 a4 a5 a7 a8 a9 t (nI k))) 8 →
      x6 + mv_sm (fun k => mv_gv a3 (mv_vo a1 a2 a4 a5 a7 a8 a9 t (nI k))) k = mv_sm (fun k => mv_gv a3 (mv_vo a1 a2 a4 a5 a7 a8 a9 t (nI k))) 8 →
      wL_sound_46 post J x1 x2 (nI t) x4 1 c r a1 a2 a3 a4 a5 a6 a7 a8 a9 a10 a11 a12 (k + 1) (nI m) x6 (mv_fd (mv_cd a3 a1 a2 a4 a5 a7 a8 a9 t) (8 - k) k) (mv_d k) := by
    intro k
    induction k with
    | zero =>
      intro m x6 _ hm hx
      have hm' : m = mv_rn (fun k => decide (0 ≤ mv_vo a1 a2 a4 a5 a7 a8 a9 t (nI k))) 8 := hm
      have hx' : mv_sm (fun k => mv_gv a3 (mv_vo a1 a2 a4 a5 a7 a8 a9 t (nI k))) 8 = x6 := by
        rw [← hx]
        show x6 + 0 = x6
        exact Int32.add_zero x6
      refine br_t (by decide) (br_f (by decide) (br_f h0 (br_f h255 (mv_countw hL ht h6 (br_t (by rw [hm']) (mv_findw hL ht h6 (br_t rfl ?_)))))))
      unfold wL_sound_190
      exact mv_sumw hL ht h6 (br_t hx' (br_f (by decide) (br_t hd (br_f (by decide) (nm_e (nm_r (nI_1 t) HJ))))))
    | succ k ih =>
      intro m x6 hk hm hx
      have e8 : 8 - k = (8 - (k + 1)) + 1 := by omega
      have hx2 : x6 + mv_gv a3 (mv_vo a1 a2 a4 a5 a7 a8 a9 t (nI k)) + mv_sm (fun k => mv_gv a3 (mv_vo a1 a2 a4 a5 a7 a8 a9 t (nI k))) k = mv_sm (fun k => mv_gv a3 (mv_vo a1 a2 a4 a5 a7 a8 a9 t (nI k))) 8 := by
        rw [← hx, Int32.add_assoc, Int32.add_comm (mv_gv a3 (mv_vo a1 a2 a4 a5 a7 a8 a9 t (nI k)))]
        rfl
      refine br_f (nI_pos (n := k) (by omega)) (mv_hasw hL ht h6 (by omega) (fun hv => mv_getw hL ht h6 (by omega) (br_f (by decide) ?_)) (fun hv => mv_getw hL ht h6 (by omega) (br_t rfl ?_)))
      · rw [mv_rn_t (decide_eq_true hv)] at hm
        have st := ih (m + 1) _ (by omega) (by omega) hx2
        rw [← nI_1, e8] at st
        refine nm_e (br_f (by decide) (br_c (fun g => ?_) (fun g => ?_)))
        · have z : mv_cd a3 a1 a2 a4 a5 a7 a8 a9 t k = false := by
            have e : mv_gv a3 (mv_vo a1 a2 a4 a5 a7 a8 a9 t (nI k)) = a3 (mv_vo a1 a2 a4 a5 a7 a8 a9 t (nI k)).toNatClampNeg := if_pos hv
            rw [e] at g
            unfold mv_cd
            rw [decide_eq_true g]; simp
          rw [mv_fd_f z] at st
          exact br_f (by decide) (nm_r (mv_d_p k) st)
        · have z : mv_cd a3 a1 a2 a4 a5 a7 a8 a9 t k = true := by
            have e : mv_gv a3 (mv_vo a1 a2 a4 a5 a7 a8 a9 t (nI k)) = a3 (mv_vo a1 a2 a4 a5 a7 a8 a9 t (nI k)).toNatClampNeg := if_pos hv
            rw [e] at g
            unfold mv_cd
            rw [decide_eq_true hv, decide_eq_false g]; rfl
          rw [mv_fd_t z] at st
          exact br_f (by decide) (nm_r (mv_d_p k) st)
      · rw [mv_rn_f (decide_eq_false hv)] at hm
        have st := ih m _ (by omega) hm hx2
        rw [e8] at st
        have z : mv_cd a3 a1 a2 a4 a5 a7 a8 a9 t k = false := by
          unfold mv_cd
          rw [decide_eq_false hv]; rfl
        rw [mv_fd_f z] at st
        have e0 : mv_gv a3 (mv_vo a1 a2 a4 a5 a7 a8 a9 t (nI k)) = 0 := if_neg hv
        exact nm_e (br_t rfl (br_t rfl (br_t e0 (nm_r (mv_d_p k) st))))
  exact ⟨9, K 8 0 0 (by omega) (by omega) (Int32.zero_add _)⟩
theorem mv_s236 {post : Int32 → Prop} (h : post 1) : ∃ fu, wL_sound_236 post c r a1 a2 a3 a4 a5 a6 a7 a8 a9 a10 a11 a12 fu 0 0 := by
  have K : ∀ k q m, q + k = 8 → m ≤ mv_rn (mv_pr c a1 a2 a4 a5) q → wL_sound_236 post c r a1 a2 a3 a4 a5 a6 a7 a8 a9 a10 a11 a12 (k + 1) (nI m) (nI q) := by
    intro k
    induction k with
    | zero =>
      intro q m hq hm
      obtain rfl : q = 8 := by omega
      have h8 := mv_rn_le (mv_pr c a1 a2 a4 a5) 8
      refine br_t (by decide) (mv_rowsw (br_f (nI_nlt hm (by omega)) (mv_rowsw (br_f (nI_nlt (a := 8) h8 (by decide)) ?_))))
      exact mv_count_bad (Or.inr (by decide)) (br_t rfl (br_t (by decide) (br_t rfl h)))
    | succ k ih =>
      intro q m hq hm
      refine br_f (nI_ge (b := 8) (by omega) (by decide)) (mv_comw (by omega) (fun x hx => br_c (fun g => nm_r (nI_1 q) (ih (q + 1) m (by omega) ?_)) (fun g => nm_r (nI_1 m) (nm_r (nI_1 q) (ih (q + 1) (m + 1) (by omega) ?_)))))
      · show m ≤ mv_rn (mv_pr c a1 a2 a4 a5) q + _
        omega
      · rw [mv_rn_t (hx g)]
        omega
  exact ⟨9, K 8 0 0 rfl (Nat.le_refl 0)⟩
theorem mv_soundw {post : Int32 → Prop} {s i : Nat} (hI : mv_I s i c r a1 a2 a4 a5 a6 a7 a8 a9 a10 a11) (h : post 1) : wpL_sound post (c, r, a1, a2, a3, a4, a5, a6, a7, a8, a9, a10, a11, a12) := by
  have hL := hI.1
  have hG := hI.2.2.2.2.2.1
  have K : ∀ k t x1, t + k = 4 → (∀ u, u < 4 → t ≤ u → a6 u ≠ 0 → x1 &&& mv_cbo a8 a10 u = 0) → wL_sound_6 post 0 c r a1 a2 a3 a4 a5 a6 a7 a8 a9 a10 a11 a12 (k + 1) x1 (nI t) := by
    intro k
    induction k with
    | zero =>
      intro t x1 ht hx
      obtain rfl : t = 4 := by omega
      exact br_t (by decide) (mv_s236 h)
    | succ k ih =>
      intro t x1 ht hx
      refine br_f (nI_ge (b := 4) (by omega) (by decide)) (mv_chw hL ?_)
      by_cases h6 : a6 t = 0
      · rw [mv_ch_cl (by omega) h6]
        exact br_t rfl (mv_s46c (by omega) h6 (ih (t + 1) x1 (by omega) (fun u g1 g2 g3 => hx u g1 (by omega) g3)))
      · rw [mv_ch_op (by omega) h6]
        obtain ⟨j, hj, e⟩ := mv_255 (hG.1 t (by omega) h6)
        have n2 : ¬ mv_cbo a8 a10 t = -2 := by
          rw [e]
          intro z
          have := nI_pos (n := j) (by omega)
          rw [z] at this
          exact this (by decide)
        refine br_f n2 (mv_s46 hL (by omega) h6 ?_ ?_ (hx t (by omega) (Nat.le_refl t) h6) (ih (t + 1) _ (by omega) (fun u g1 g2 g3 => ?_)))
        · rw [e]; exact nI_pos (by omega)
        · rw [e]; exact nI_nlt (a := 255) (b := j) (by omega) (by omega)
        · rw [mv_dj_or]
          exact ⟨hx u g1 (by omega) g3, hG.2 t u (by omega) g1 (by omega) h6 g3⟩
  exact ⟨5, K 4 0 0 rfl (fun u _ _ _ => mv_dj_0 _)⟩
end
end
section
/-! ===== one turn ===== -/
section
variable {c r : Int64} {a1 a2 a3 a4 a5 a6 : Nat → Int32} {a7 : Nat → Int64} {a8 a9 a10 a11 a12 : Nat → Int32}
/-- what the law asks of a turn o with the arguments x, y: its answer and the state behind it -/
def mv_tn (i o : Nat) (u : St1) (x y ans : Int32) (u' : St1) : Prop :=
  (∃ s, mv_IU s (i + 1) u') ∧ (¬ (11 ≤ o ∧ o ≤ 12) → mv_RU u' = mv_RU u) ∧
  (11 ≤ o → o ≤ 13 → ¬ ans < 0 → mv_CU u' x = -2 ∧ ¬ 8 < ans ∧ (mv_CU u x = 0 ↔ ans = 0)) ∧
  (3 ≤ o → o ≤ 8 → ¬ ans < 0 → mv_CU u' x = mv_CU u x ||| ((1 : Int32) <<< ((y &&& 7) &&& 31)))
theorem mv_tn_ok {i o : Nat} {u u' : St1} {x y ans : Int32} (h : mv_ok i u u') (h1 : ¬ (11 ≤ o ∧ o ≤ 13)) (h2 : ¬ (3 ≤ o ∧ o ≤ 8)) : mv_tn i o u x y ans u' := by
  obtain ⟨s, g1, g2⟩ := h
  exact ⟨⟨s, g1⟩, fun _ => g2, fun a b => absurd ⟨a, b⟩ h1, fun a b => absurd ⟨a, b⟩ h2⟩
theorem mv_tn_chg {s i o : Nat} {u u' : St1} {x y ans : Int32} (h : mv_chg s i u x y ans u') (h1 : ¬ (11 ≤ o ∧ o ≤ 13)) : mv_tn i o u x y ans u' :=
  ⟨⟨s, h.1⟩, fun _ => h.2.1, fun a b => absurd ⟨a, b⟩ h1, fun _ _ => h.2.2⟩
theorem mv_tn_fin {s i o : Nat} {u u' : St1} {x y ans : Int32} (h : mv_fin s i u x ans u') (h1 : ¬ (11 ≤ o ∧ o ≤ 12) → mv_RU u' = mv_RU u) (h2 : ¬ (3 ≤ o ∧ o ≤ 8)) : mv_tn i o u x y ans u' :=
  ⟨⟨s, h.1⟩, h1, fun _ _ => h.2, fun a b => absurd ⟨a, b⟩ h2⟩
theorem mv_o15 : ∀ o, o < 16 → nI o &&& 15 = nI o := by decide +kernel
theorem mv_turnw {post : Int32 → St1 → Prop} {s i o : Nat} {x y z : Int32} (hI : mv_I s i c r a1 a2 a4 a5 a6 a7 a8 a9 a10 a11) (hi : i ≤ 64) (ho : o < 16) (H : ∀ ans u, mv_tn i o (c, r, a1, a2, a3, a4, a5, a6, a7, a8, a9, a10, a11, a12) x y ans u → post ans u) : wpL_turn post (c, r, a1, a2, a3, a4, a5, a6, a7, a8, a9, a10, a11, a12) (nI o) x y z := by
  refine nm_r (mv_o15 o ho) (pk_le 3 o (fun h3 => pk_le 7 o (fun h7 => pk_eq o 7 (fun e => mv_addw hI hi (fun ans u hc => ?_)) (fun n7 => pk_eq o 8 (fun e => mv_dropw hI hi (fun ans u hc => ?_)) (fun n8 => pk_eq o 9 (fun e => mv_savew hI hi (fun ans u hc => ?_)) (fun n9 => pk_eq o 10 (fun e => mv_backw hI hi (fun ans u hc => ?_)) (fun n10 => pk_le 13 o (fun h13 => pk_eq o 13 (fun e => mv_abortw hI hi (fun ans u hc hr => ?_)) (fun n13 => pk_eq o 14 (fun e => mv_crashw hI (fun ans u hc => ?_)) (fun n14 => br_c (fun _ => mv_flw hI hi (fun u hc => ?_)) (fun _ => mv_vacw hI hi (fun u hc => ?_))))) (fun h13 => mv_commitw hI hi (fun ans u hc => ?_))))))) (fun h7 => mv_putw hI hi (fun ans u hc => ?_))) (fun h3 => mv_begw hI hi (fun ans u hc => ?_)))
  · obtain ⟨c', r', a1', a2', a3', a4', a5', a6', a7', a8', a9', a10', a11', a12'⟩ := u
    exact H _ _ (mv_tn_chg hc (by omega))
  · obtain ⟨c', r', a1', a2', a3', a4', a5', a6', a7', a8', a9', a10', a11', a12'⟩ := u
    exact H _ _ (mv_tn_chg hc (by omega))
  · obtain ⟨c', r', a1', a2', a3', a4', a5', a6', a7', a8', a9', a10', a11', a12'⟩ := u
    exact H _ _ (mv_tn_ok hc (by omega) (by omega))
  · obtain ⟨c', r', a1', a2', a3', a4', a5', a6', a7', a8', a9', a10', a11', a12'⟩ := u
    exact H _ _ (mv_tn_ok hc (by omega) (by omega))
  · obtain ⟨c', r', a1', a2', a3', a4', a5', a6', a7', a8', a9', a10', a11', a12'⟩ := u
    exact H _ _ (mv_tn_fin hc (fun _ => hr) (by omega))
  · obtain ⟨c', r', a1', a2', a3', a4', a5', a6', a7', a8', a9', a10', a11', a12'⟩ := u
    exact H _ _ (mv_tn_ok hc (by omega) (by omega))
  · obtain ⟨c', r', a1', a2', a3', a4', a5', a6', a7', a8', a9', a10', a11', a12'⟩ := u
    exact H _ _ (mv_tn_ok hc (by omega) (by omega))
  · obtain ⟨c', r', a1', a2', a3', a4', a5', a6', a7', a8', a9', a10', a11', a12'⟩ := u
    exact H _ _ (mv_tn_ok hc (by omega) (by omega))
  · obtain ⟨c', r', a1', a2', a3', a4', a5', a6', a7', a8', a9', a10', a11', a12'⟩ := u
    exact H _ _ (mv_tn_fin hc (fun n => absurd ⟨by omega, by omega⟩ n) (by omega))
  · obtain ⟨c', r', a1', a2', a3', a4', a5', a6', a7', a8', a9', a10', a11', a12'⟩ := u
    exact H _ _ (mv_tn_chg hc (by omega))
  · obtain ⟨c', r', a1', a2', a3', a4', a5', a6', a7', a8', a9', a10', a11', a12'⟩ := u
    exact H _ _ (mv_tn_ok hc (by omega) (by omega))
end
end
section
/-! ===== the law ===== -/
section
variable {c r : Int64} {a1 a2 a3 a4 a5 a6 : Nat → Int32} {a7 : Nat → Int64} {a8 a9 a10 a11 a12 : Nat → Int32}
/-- the checks behind a turn -/
theorem mv_155 {L : Nat} {xs : Nat → Int32} {J : Int32 → Int64 → Int64 → (Nat → Int32) → (Nat → Int32) → (Nat → Int32) → (Nat → Int32) → (Nat → Int32) → (Nat → Int32) → (Nat → Int64) → (Nat → Int32) → (Nat → Int32) → (Nat → Int32) → (Nat → Int32) → (Nat → Int32) → Prop}
    {x4 x6 x7 : Int32} {i o kc ks : Nat} (hL : mv_L a6 a8) (ho : o < 16) (hl : 4 * i + 3 < L) (hL2 : L ≤ 260)
    (h : 3 ≤ o → o ≤ 8 → ¬ x7 < 0 → mv_ch a6 a8 a10 x4 = x6 ||| ((1 : Int32) <<< (((xs (nI (4 * i) + 2).toNatClampNeg) &&& 7) &&& 31)))
    (HJ : J (nI (4 * (i + 1))) c r a1 a2 a3 a4 a5 a6 a7 a8 a9 a10 a11 a12) : wL_law_155 (fun r => r = 1) L xs J (nI (4 * i)) (nI o) x4 x6 x7 kc ks c r a1 a2 a3 a4 a5 a6 a7 a8 a9 a10 a11 a12 := by
  have e4 : nI (4 * i) + 4 = nI (4 * (i + 1)) := nI_add (4 * i) 4
  exact pk_le o 2 (fun _ => nm_r e4 HJ) (fun g1 => pk_le 9 o (fun _ => nm_r e4 HJ) (fun g2 => br_c (fun _ => nm_r e4 HJ) (fun g3 => mv_chw hL ⟨pk_in (4 * i + 2) L (by omega) (nI_add (4 * i) 2), br_t (h (by omega) (by omega) g3) (nm_r e4 HJ)⟩)))
theorem mv_95 {L : Nat} {xs : Nat → Int32} {J : Int32 → Int64 → Int64 → (Nat → Int32) → (Nat → Int32) → (Nat → Int32) → (Nat → Int32) → (Nat → Int32) → (Nat → Int32) → (Nat → Int64) → (Nat → Int32) → (Nat → Int32) → (Nat → Int32) → (Nat → Int32) → (Nat → Int32) → Prop}
    {x4 x6 x7 : Int32} {i o kc ks : Nat} (hL : mv_L a6 a8) (ho : o < 16) (hl : 4 * i + 3 < L) (hL2 : L ≤ 260)
    (h1 : 11 ≤ o → o ≤ 13 → ¬ x7 < 0 → mv_ch a6 a8 a10 x4 = -2 ∧ ¬ 8 < x7 ∧ (x6 = 0 ↔ x7 = 0))
    (h : 3 ≤ o → o ≤ 8 → ¬ x7 < 0 → mv_ch a6 a8 a10 x4 = x6 ||| ((1 : Int32) <<< (((xs (nI (4 * i) + 2).toNatClampNeg) &&& 7) &&& 31)))
    (HJ : J (nI (4 * (i + 1))) c r a1 a2 a3 a4 a5 a6 a7 a8 a9 a10 a11 a12) : wL_law_95 (fun r => r = 1) L xs J (nI (4 * i)) (nI o) x4 x6 x7 kc ks c r a1 a2 a3 a4 a5 a6 a7 a8 a9 a10 a11 a12 := by
  have T : wL_law_155 (fun r => r = 1) L xs J (nI (4 * i)) (nI o) x4 x6 x7 kc ks c r a1 a2 a3 a4 a5 a6 a7 a8 a9 a10 a11 a12 := mv_155 hL ho hl hL2 h HJ
  refine pk_le o 10 (fun _ => T) (fun g1 => pk_le 14 o (fun _ => T) (fun g2 => br_c (fun _ => T) (fun g3 => mv_chw hL ?_)))
  obtain ⟨k1, k2, k3⟩ := h1 (by omega) (by omega) g3
  exact br_t k1 (br_f k2 (br_c (fun z => br_t (k3.mp z) (br_t rfl T)) (fun z => br_f (fun y => z (k3.mpr y)) (br_t rfl T))))
theorem mv_84 {L : Nat} {xs : Nat → Int32} {J : Int32 → Int64 → Int64 → (Nat → Int32) → (Nat → Int32) → (Nat → Int32) → (Nat → Int32) → (Nat → Int32) → (Nat → Int32) → (Nat → Int64) → (Nat → Int32) → (Nat → Int32) → (Nat → Int32) → (Nat → Int32) → (Nat → Int32) → Prop}
    {x3 x4 x5 x6 x7 y : Int32} {kc ks : Nat} (hr : mv_rows c a1 a2 a4 a5 = x5) (h : wL_law_95 (fun r => r = 1) L xs J y x3 x4 x6 x7 kc ks c r a1 a2 a3 a4 a5 a6 a7 a8 a9 a10 a11 a12) : wL_law_84 (fun r => r = 1) L xs J y x3 x4 x5 x6 x7 kc ks c r a1 a2 a3 a4 a5 a6 a7 a8 a9 a10 a11 a12 :=
  by unfold wL_law_84; exact mv_rowsw (br_t hr h)
end
theorem mv_law10 {L : Nat} {xs : Nat → Int32} {kc ks : Nat} (hL2 : L ≤ 260) : ∀ (k i s : Nat) (c r : Int64) (a1 a2 a3 a4 a5 a6 : Nat → Int32) (a7 : Nat → Int64) (a8 a9 a10 a11 a12 : Nat → Int32), i + k = 65 → mv_I s i c r a1 a2 a4 a5 a6 a7 a8 a9 a10 a11 →
    wL_law_10 (fun r => r = 1) L xs kc ks (k + 1) (nI (4 * i)) c r a1 a2 a3 a4 a5 a6 a7 a8 a9 a10 a11 a12 := by
  intro k
  induction k with
  | zero =>
    intro i s c r a1 a2 a3 a4 a5 a6 a7 a8 a9 a10 a11 a12 hl hI
    exact pk_le L (4 * i + 3) (fun _ => rfl) (fun g => absurd g (by omega)) rfl (nI_add (4 * i) 3)
  | succ k ih =>
    intro i s c r a1 a2 a3 a4 a5 a6 a7 a8 a9 a10 a11 a12 hl hI
    refine pk_le L (4 * i + 3) (fun _ => rfl) (fun g => ?_) rfl (nI_add (4 * i) 3) (by omega) (by omega)
    obtain ⟨o, ho, eo⟩ := pk_andE (xs (nI (4 * i)).toNatClampNeg) (m := 15) 4 (by decide)
    have hL := hI.1
    refine ⟨pk_in (4 * i) L (by omega), nm_r eo ⟨pk_in (4 * i + 1) L (by omega) (nI_add (4 * i) 1), nm_e (mv_rowsw (mv_chw hL ⟨pk_in (4 * i + 2) L (by omega) (nI_add (4 * i) 2), pk_in (4 * i + 3) L (by omega) (nI_add (4 * i) 3), mv_turnw hI (by omega) ho (fun ans u ht => ?_)⟩))⟩⟩
    obtain ⟨c', r', a1', a2', a3', a4', a5', a6', a7', a8', a9', a10', a11', a12'⟩ := u
    obtain ⟨⟨s', hI'⟩, t1, t2, t3⟩ := ht
    have J := ih (i + 1) s' c' r' a1' a2' a3' a4' a5' a6' a7' a8' a9' a10' a11' a12' (by omega) hI'
    have hL' : mv_L a6' a8' := hI'.1
    have T := mv_95 (xs := xs) (kc := kc) (ks := ks) hL' ho g hL2 t2 t3 J
    exact mv_soundw hI' (br_f (by decide) (pk_lt o 11 (fun g1 => mv_84 (t1 (by omega)) T) (fun g1 => pk_le o 12 (fun g2 => T) (fun g2 => mv_84 (t1 (by omega)) T))))
theorem i_vc (xs : Nat → Int32) (L : Nat) (hL : L ≤ 260) : wpL_law (fun r => r = 1) L xs := by
  refine ⟨12, 544, by omega, by omega, ?_⟩
  refine ⟨by omega, by omega, by omega, by omega, by omega, by omega, by omega, by omega, by omega, by omega, by omega, by omega, by omega, by omega, by omega, by omega, by omega, by omega, by omega, by omega, by omega, by omega, by omega, by omega, 66, ?_⟩
  refine mv_law10 hL 65 0 0 0 0 _ _ _ _ _ _ _ _ _ _ _ _ (by omega) ?_
  refine ⟨fun t _ h => absurd rfl h, ⟨fun n _ h => absurd ((mv_bt_0 _).symm.trans h) (by decide), fun n _ h => absurd ((mv_bt_0 _).symm.trans h) (by decide), fun t k h => absurd rfl h.2.2.1, fun t k t' k' h => absurd rfl h.2.2.1⟩, fun v _ h => absurd rfl h, fun v t _ h => absurd rfl h, fun v t k _ h => absurd rfl h, ⟨fun t _ h => absurd rfl h, fun t t' _ _ _ h => absurd rfl h⟩, fun v _ _ => rfl, ?_⟩
  unfold mv_P
  omega
end
