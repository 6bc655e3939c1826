section
theorem nx_and (a b : Nat) : nI a &&& nI b = nI (a &&& b) := by
  apply Int32.toBitVec_inj.1
  show BitVec.ofNat 32 a &&& BitVec.ofNat 32 b = BitVec.ofNat 32 (a &&& b)
  apply BitVec.eq_of_getLsbD_eq
  intro i hi
  simp [hi]
theorem nx_xor (a b : Nat) : nI a ^^^ nI b = nI (a ^^^ b) := by
  apply Int32.toBitVec_inj.1
  show BitVec.ofNat 32 a ^^^ BitVec.ofNat 32 b = BitVec.ofNat 32 (a ^^^ b)
  apply BitVec.eq_of_getLsbD_eq
  intro i hi
  simp [hi]
theorem wb_tb (n : Nat) : (lN n).toBitVec = BitVec.ofNat 64 n := rfl
theorem wb_inj {a b : Int64} (h : a.toBitVec = b.toBitVec) : a = b := Int64.toBitVec_inj.mp h
theorem wb_tn {n : Nat} (h : n < 2 ^ 64) : (lN n).toBitVec.toNat = n := by rw [wb_tb, BitVec.toNat_ofNat, Nat.mod_eq_of_lt h]
theorem wb_of (x : Int64) : ∃ n, n < 2 ^ 64 ∧ x = lN n := ⟨x.toBitVec.toNat, x.toBitVec.isLt, wb_inj (by rw [wb_tb]; simp)⟩
theorem wb_of32 (x : Int32) : ∃ n, n < 2 ^ 32 ∧ x = nI n := ⟨x.toBitVec.toNat, x.toBitVec.isLt, Int32.toBitVec_inj.mp (by show _ = BitVec.ofNat 32 _; simp)⟩
theorem wb_c : ∀ k, k < 64 → ((nI k).toInt64 &&& 63) = lN k := by decide +kernel
theorem wb_cu : ∀ k, k < 64 → ((nI k).toInt64.toUInt64 &&& Int64.toUInt64 63) = UInt64.ofNat k := by decide +kernel
theorem wb_sm : ∀ k, k < 64 → (BitVec.ofNat 64 k).smod 64 = BitVec.ofNat 64 k := by decide +kernel
theorem wb_pw {a b : Nat} (h : a ≤ b) : 2 ^ b = 2 ^ a * 2 ^ (b - a) := by rw [← Nat.pow_add]; congr 1; omega
theorem wb_lt2 {a b : Nat} (h : a < b) : 2 ^ a < 2 ^ b := Nat.pow_lt_pow_right (by decide) h
theorem wb_shr {n k : Nat} (hn : n < 2 ^ 64) (hk : k < 64) : ((lN n).toUInt64 >>> ((nI k).toInt64.toUInt64 &&& Int64.toUInt64 63)).toInt64 = lN (n / 2 ^ k) := by
  rw [wb_cu k hk]
  apply wb_inj
  apply BitVec.eq_of_toNat_eq
  show ((lN n).toUInt64 >>> UInt64.ofNat k).toNat = (BitVec.ofNat 64 _).toNat
  have h1 : (UInt64.ofNat k).toNat = k := by
    show (BitVec.ofNat 64 k).toNat = k
    rw [BitVec.toNat_ofNat, Nat.mod_eq_of_lt (by omega)]
  have h2 : (lN n).toUInt64.toNat = n := wb_tn hn
  rw [UInt64.toNat_shiftRight, h1, h2, Nat.mod_eq_of_lt hk, Nat.shiftRight_eq_div_pow, BitVec.toNat_ofNat, Nat.mod_eq_of_lt (Nat.lt_of_le_of_lt (Nat.div_le_self _ _) hn)]
theorem wb_shl (n : Nat) {k : Nat} (hk : k < 64) : lN n <<< ((nI k).toInt64 &&& 63) = lN (n * 2 ^ k) := by
  rw [wb_c k hk]
  apply wb_inj
  rw [Int64.toBitVec_shiftLeft, wb_tb, wb_tb, wb_tb, wb_sm k hk]
  apply BitVec.eq_of_toNat_eq
  rw [BitVec.shiftLeft_eq', BitVec.toNat_shiftLeft, BitVec.toNat_ofNat, BitVec.toNat_ofNat, BitVec.toNat_ofNat, Nat.mod_eq_of_lt (show k < 2 ^ 64 by omega), Nat.shiftLeft_eq, Nat.mul_mod, Nat.mod_mod, ← Nat.mul_mod]
theorem wb_and {a b : Nat} (ha : a < 2 ^ 64) (hb : b < 2 ^ 64) : lN a &&& lN b = lN (a &&& b) := by
  apply wb_inj
  rw [Int64.toBitVec_and, wb_tb, wb_tb, wb_tb]
  apply BitVec.eq_of_toNat_eq
  rw [BitVec.toNat_and, BitVec.toNat_ofNat, BitVec.toNat_ofNat, BitVec.toNat_ofNat, Nat.mod_eq_of_lt ha, Nat.mod_eq_of_lt hb, Nat.mod_eq_of_lt (Nat.and_lt_two_pow _ hb)]
theorem wb_mask {n k : Nat} (hn : n < 2 ^ 64) (hk : k < 64) : lN n &&& lN (2 ^ k - 1) = lN (n % 2 ^ k) := by
  rw [wb_and hn (by have := wb_lt2 hk; omega), Nat.and_two_pow_sub_one_eq_mod]
end
section
/-! ===== the pure picture: a frame's plain bits, its check number, what the wire shows after j bits ===== -/
/-- the plain bit i of a frame, the check number being c -/
def wn_pb (id len d c i : Nat) : Nat :=
  if i < 1 then 0 else if i < 12 then id / 2 ^ (11 - i) % 2 else if i < 15 then 0 else if i < 19 then len / 2 ^ (18 - i) % 2
  else if i < 19 + 8 * len then d / 2 ^ (18 + 8 * len - i) % 2 else c / 2 ^ (33 + 8 * len - i) % 2
/-- one step of the check number -/
def wn_cs (c b : Nat) : Nat := (2 * c % 32768) ^^^ (if b ^^^ (c / 16384 % 2) = 1 then 17817 else 0)
/-- the check number ahead of plain bit i -/
def wn_ck (id len d : Nat) : Nat → Nat
  | 0 => 0
  | i + 1 => if i < 19 + 8 * len then wn_cs (wn_ck id len d i) (wn_pb id len d (wn_ck id len d i) i) else wn_ck id len d i
/-- plain bit i -/
def wn_b (id len d i : Nat) : Nat := wn_pb id len d (wn_ck id len d i) i
/-- ahead of plain bit i: the last bit, how often in a row, how many bits were put out -/
def wn_P (id len d : Nat) : Nat → Int32 × Nat × Nat
  | 0 => (-1, 0, 0)
  | i + 1 => (nI (wn_b id len d i), if (wn_P id len d i).2.1 = 5 then (if nI (wn_b id len d i) = 1 - (wn_P id len d i).1 then 2 else 1) else (if nI (wn_b id len d i) = (wn_P id len d i).1 then (wn_P id len d i).2.1 + 1 else 1), if (wn_P id len d i).2.1 = 5 then (wn_P id len d i).2.2 + 2 else (wn_P id len d i).2.2 + 1)
def wn_o (id len d i : Nat) : Nat := (wn_P id len d i).2.2
/-- a listener: plain bits so far, the last bit, how often in a row, bits of the tail; what one bit of the wire does -/
def wn_nx (id len d : Nat) (w : Nat × Int32 × Nat × Nat) : Nat × Int32 × Nat × Nat :=
  if w.1 = 34 + 8 * len then (w.1, w.2.1, w.2.2.1, w.2.2.2 + 1)
  else if w.2.2.1 = 5 then (w.1, 1 - w.2.1, 1, w.2.2.2)
  else (w.1 + 1, nI (wn_b id len d w.1), if nI (wn_b id len d w.1) = w.2.1 then w.2.2.1 + 1 else 1, w.2.2.2)
def wn_W (id len d : Nat) : Nat → Nat × Int32 × Nat × Nat
  | 0 => (0, -1, 0, 0)
  | j + 1 => wn_nx id len d (wn_W id len d j)
/-- what the wire shows to a listener at w -/
def wn_lv (id len d : Nat) (w : Nat × Int32 × Nat × Nat) : Int32 :=
  if w.1 = 34 + 8 * len then (if w.2.2.2 = 1 then 0 else 1) else if w.2.2.1 = 5 then 1 - w.2.1 else nI (wn_b id len d w.1)
/-- whether a disturbance counts -/
def wn_ct (len : Nat) (w : Nat × Int32 × Nat × Nat) : Prop := 12 ≤ w.1 ∧ (w.1 = 34 + 8 * len → w.2.2.2 = 0)
/-- the fields heard so far -/
def wn_hI (id i : Nat) : Nat := id / 2 ^ (12 - i)
def wn_hL (len i : Nat) : Nat := len / 2 ^ (19 - i)
def wn_hC (id len d i : Nat) : Nat := wn_ck id len d (19 + 8 * len) / 2 ^ (34 + 8 * len - i)
/-- what a listener's state may be -/
def wn_wf (len : Nat) (w : Nat × Int32 × Nat × Nat) : Prop := w.1 ≤ 34 + 8 * len ∧ w.2.2.1 ≤ 5 ∧ (w.2.2.1 ≠ 0 → w.2.1 = 0 ∨ w.2.1 = 1)

theorem wn_pb_lt (id len d c i : Nat) : wn_pb id len d c i < 2 := by
  unfold wn_pb
  repeat' split
  all_goals omega
theorem wn_b_lt (id len d i : Nat) : wn_b id len d i < 2 := wn_pb_lt _ _ _ _ _
theorem wn_cs_lt (c b : Nat) : wn_cs c b < 32768 := by
  unfold wn_cs
  refine Nat.xor_lt_two_pow (n := 15) (by omega) ?_
  split <;> omega
theorem wn_ck_lt (id len d i : Nat) : wn_ck id len d i < 32768 := by
  induction i with
  | zero => exact (by decide : 0 < 32768)
  | succ i ih =>
    unfold wn_ck
    split
    · exact wn_cs_lt _ _
    · exact ih
theorem wn_ck_s (id len d i : Nat) (h : i < 19 + 8 * len) : wn_ck id len d (i + 1) = wn_cs (wn_ck id len d i) (wn_b id len d i) := by
  show (if i < 19 + 8 * len then _ else _) = _
  rw [if_pos h]
  rfl
theorem wn_ck_e (id len d i : Nat) (h : 19 + 8 * len ≤ i) : wn_ck id len d (i + 1) = wn_ck id len d i := by
  show (if i < 19 + 8 * len then _ else _) = _
  rw [if_neg (by omega)]
theorem wn_ck_f (id len d k : Nat) : wn_ck id len d (19 + 8 * len + k) = wn_ck id len d (19 + 8 * len) := by
  induction k with
  | zero => rfl
  | succ k ih =>
    rw [← ih]
    exact wn_ck_e id len d (19 + 8 * len + k) (by omega)
theorem wn_ck_t (id len d i : Nat) (h : 19 + 8 * len ≤ i) : wn_ck id len d i = wn_ck id len d (19 + 8 * len) := by
  have := wn_ck_f id len d (i - (19 + 8 * len))
  rw [show 19 + 8 * len + (i - (19 + 8 * len)) = i by omega] at this
  exact this
theorem wn_half (v k : Nat) : v / 2 ^ k = 2 * (v / 2 ^ (k + 1)) + v / 2 ^ k % 2 := by
  rw [Nat.pow_succ, ← Nat.div_div_eq_div_mul]
  omega
theorem wn_hI_s {id i : Nat} (h1 : 1 ≤ i) (h2 : i < 12) : wn_hI id (i + 1) = 2 * wn_hI id i + id / 2 ^ (11 - i) % 2 := by
  unfold wn_hI
  have := wn_half id (11 - i)
  rw [show 12 - (i + 1) = 11 - i by omega, show 12 - i = 11 - i + 1 by omega]
  exact this
theorem wn_hI_0 {id : Nat} (h : id < 2048) : wn_hI id (0 + 1) = wn_hI id 0 := by
  unfold wn_hI
  rw [Nat.div_eq_of_lt (by omega), Nat.div_eq_of_lt (by omega)]
theorem wn_hI_e {id i : Nat} (h : 12 ≤ i) : wn_hI id (i + 1) = wn_hI id i := by
  unfold wn_hI
  rw [show 12 - (i + 1) = 12 - i by omega]
theorem wn_hI_t {id i : Nat} (h : 12 ≤ i) : wn_hI id i = id := by
  unfold wn_hI
  rw [show 12 - i = 0 by omega, Nat.pow_zero, Nat.div_one]
theorem wn_hL_s {len i : Nat} (h1 : 15 ≤ i) (h2 : i < 19) : wn_hL len (i + 1) = 2 * wn_hL len i + len / 2 ^ (18 - i) % 2 := by
  unfold wn_hL
  have := wn_half len (18 - i)
  rw [show 19 - (i + 1) = 18 - i by omega, show 19 - i = 18 - i + 1 by omega]
  exact this
theorem wn_hL_z {len i : Nat} (h : len ≤ 8) (hi : i ≤ 15) : wn_hL len i = 0 := by
  unfold wn_hL
  refine Nat.div_eq_of_lt (Nat.lt_of_lt_of_le (show len < 2 ^ 4 by omega) (Nat.pow_le_pow_right (by decide) (by omega)))
theorem wn_hL_t {len i : Nat} (h : 19 ≤ i) : wn_hL len i = len := by
  unfold wn_hL
  rw [show 19 - i = 0 by omega, Nat.pow_zero, Nat.div_one]
theorem wn_hL_le {len i : Nat} (h : len ≤ 8) : wn_hL len i ≤ 8 := Nat.le_trans (Nat.div_le_self _ _) h
theorem wn_hI_le {id i : Nat} (h : id < 2048) : wn_hI id i < 2048 := Nat.lt_of_le_of_lt (Nat.div_le_self _ _) h
theorem wn_hC_lt (id len d i : Nat) : wn_hC id len d i < 32768 := Nat.lt_of_le_of_lt (Nat.div_le_self _ _) (wn_ck_lt _ _ _ _)
theorem wn_hC_z {id len d i : Nat} (h : i ≤ 19 + 8 * len) : wn_hC id len d i = 0 := by
  unfold wn_hC
  refine Nat.div_eq_of_lt (Nat.lt_of_lt_of_le (show _ < 2 ^ 15 from wn_ck_lt id len d _) (Nat.pow_le_pow_right (by decide) (by omega)))
theorem wn_hC_s {id len d i : Nat} (h1 : 19 + 8 * len ≤ i) (h2 : i < 34 + 8 * len) : wn_hC id len d (i + 1) = 2 * wn_hC id len d i + wn_ck id len d i / 2 ^ (33 + 8 * len - i) % 2 := by
  rw [wn_ck_t id len d i h1]
  unfold wn_hC
  have := wn_half (wn_ck id len d (19 + 8 * len)) (33 + 8 * len - i)
  rw [show 34 + 8 * len - (i + 1) = 33 + 8 * len - i by omega, show 34 + 8 * len - i = 33 + 8 * len - i + 1 by omega]
  exact this
theorem wn_hC_t {id len d : Nat} : wn_hC id len d (34 + 8 * len) = wn_ck id len d (34 + 8 * len) := by
  rw [wn_ck_t id len d (34 + 8 * len) (by omega)]
  unfold wn_hC
  rw [Nat.sub_self, Nat.pow_zero, Nat.div_one]
/-! the bits by their places -/
theorem wn_b_0 (id len d : Nat) : wn_b id len d 0 = 0 := rfl
theorem wn_b_id {id len d i : Nat} (h1 : 1 ≤ i) (h2 : i < 12) : wn_b id len d i = id / 2 ^ (11 - i) % 2 := by
  unfold wn_b wn_pb
  rw [if_neg (by omega), if_pos h2]
theorem wn_b_z {id len d i : Nat} (h1 : 12 ≤ i) (h2 : i < 15) : wn_b id len d i = 0 := by
  unfold wn_b wn_pb
  rw [if_neg (by omega), if_neg (by omega), if_pos h2]
theorem wn_b_len {id len d i : Nat} (h1 : 15 ≤ i) (h2 : i < 19) : wn_b id len d i = len / 2 ^ (18 - i) % 2 := by
  unfold wn_b wn_pb
  rw [if_neg (by omega), if_neg (by omega), if_neg (by omega), if_pos h2]
theorem wn_b_d {id len d i : Nat} (h1 : 19 ≤ i) (h2 : i < 19 + 8 * len) : wn_b id len d i = d / 2 ^ (18 + 8 * len - i) % 2 := by
  unfold wn_b wn_pb
  rw [if_neg (by omega), if_neg (by omega), if_neg (by omega), if_neg (by omega), if_pos h2]
theorem wn_b_c {id len d i : Nat} (h1 : 19 + 8 * len ≤ i) : wn_b id len d i = wn_ck id len d i / 2 ^ (33 + 8 * len - i) % 2 := by
  unfold wn_b wn_pb
  rw [if_neg (by omega), if_neg (by omega), if_neg (by omega), if_neg (by omega), if_neg (by omega)]
/-! the wire -/
theorem wn_bI (id len d i : Nat) : nI (wn_b id len d i) = 0 ∨ nI (wn_b id len d i) = 1 := by
  have h := wn_b_lt id len d i
  rcases (show wn_b id len d i = 0 ∨ wn_b id len d i = 1 by omega) with e | e
  · exact Or.inl (by rw [e]; rfl)
  · exact Or.inr (by rw [e]; rfl)
theorem wn_1m {l : Int32} (h : l = 0 ∨ l = 1) : 1 - l = 0 ∨ 1 - l = 1 := by
  rcases h with e | e
  · exact Or.inr (by rw [e]; rfl)
  · exact Or.inl (by rw [e]; rfl)
theorem wn_wf0 (id len d : Nat) : wn_wf len (wn_W id len d 0) := ⟨Nat.zero_le _, Nat.zero_le _, fun h => absurd rfl h⟩
theorem wn_wf_s {id len d : Nat} {w : Nat × Int32 × Nat × Nat} (h : wn_wf len w) : wn_wf len (wn_nx id len d w) := by
  obtain ⟨i, l, r, t⟩ := w
  obtain ⟨h1, h2, h3⟩ := h
  dsimp only at h1 h2 h3
  unfold wn_nx
  dsimp only
  by_cases e1 : i = 34 + 8 * len
  · rw [if_pos e1]
    exact ⟨h1, h2, h3⟩
  · rw [if_neg e1]
    by_cases e2 : r = 5
    · rw [if_pos e2]
      exact ⟨h1, (by decide : 1 ≤ 5), fun _ => wn_1m (h3 (by omega))⟩
    · rw [if_neg e2]
      refine ⟨?_, ?_, fun _ => wn_bI _ _ _ _⟩
      · show i + 1 ≤ _
        omega
      · have h5 : (if nI (wn_b id len d i) = l then r + 1 else 1) ≤ 5 := by split <;> omega
        exact h5
theorem wn_wfW (id len d j : Nat) : wn_wf len (wn_W id len d j) := by
  induction j with
  | zero => exact wn_wf0 id len d
  | succ j ih => exact wn_wf_s ih
theorem wn_lv01 {id len d : Nat} {w : Nat × Int32 × Nat × Nat} (h : wn_wf len w) : wn_lv id len d w = 0 ∨ wn_lv id len d w = 1 := by
  unfold wn_lv
  by_cases e1 : w.1 = 34 + 8 * len
  · rw [if_pos e1]
    by_cases e2 : w.2.2.2 = 1
    · rw [if_pos e2]; exact Or.inl rfl
    · rw [if_neg e2]; exact Or.inr rfl
  · rw [if_neg e1]
    by_cases e2 : w.2.2.1 = 5
    · rw [if_pos e2]
      exact wn_1m (h.2.2 (by omega))
    · rw [if_neg e2]
      exact wn_bI _ _ _ _
theorem wn_o_0 (id len d : Nat) : wn_o id len d 0 = 0 := rfl
theorem wn_o_s (id len d i : Nat) : wn_o id len d (i + 1) = if (wn_P id len d i).2.1 = 5 then wn_o id len d i + 2 else wn_o id len d i + 1 := rfl
theorem wn_o_b (id len d i : Nat) : i ≤ wn_o id len d i ∧ wn_o id len d i ≤ 2 * i := by
  induction i with
  | zero => exact ⟨Nat.le_refl 0, Nat.le_refl 0⟩
  | succ i ih =>
    rw [wn_o_s]
    split <;> omega
theorem wn_o_lt (id len d i k : Nat) : wn_o id len d i + k ≤ wn_o id len d (i + k) := by
  induction k with
  | zero => exact Nat.le_refl _
  | succ k ih =>
    have : wn_o id len d (i + k) + 1 ≤ wn_o id len d (i + k + 1) := by
      rw [wn_o_s]
      split <;> omega
    show wn_o id len d i + (k + 1) ≤ wn_o id len d (i + k + 1)
    omega
theorem wn_Ws (id len d j : Nat) : wn_W id len d (j + 1) = wn_nx id len d (wn_W id len d j) := rfl
theorem wn_W_o (id len d : Nat) : ∀ i, i ≤ 34 + 8 * len → wn_W id len d (wn_o id len d i) = (i, (wn_P id len d i).1, (wn_P id len d i).2.1, 0) ∧ (i ≠ 0 → (wn_W id len d (wn_o id len d i - 1)).1 = i - 1) := by
  intro i
  induction i with
  | zero => exact fun _ => ⟨rfl, fun h => absurd rfl h⟩
  | succ i ih =>
    intro hi
    obtain ⟨ih, _⟩ := ih (by omega)
    have ne : ¬ i = 34 + 8 * len := by omega
    rw [wn_o_s]
    by_cases e : (wn_P id len d i).2.1 = 5
    · rw [if_pos e]
      have s1 : wn_W id len d (wn_o id len d i + 1) = (i, 1 - (wn_P id len d i).1, 1, 0) := by
        rw [wn_Ws, ih]
        unfold wn_nx
        dsimp only
        rw [if_neg ne, if_pos e]
      have s2 : wn_W id len d (wn_o id len d i + 2) = (i + 1, nI (wn_b id len d i), if nI (wn_b id len d i) = 1 - (wn_P id len d i).1 then 1 + 1 else 1, 0) := by
        rw [wn_Ws, s1]
        unfold wn_nx
        dsimp only
        rw [if_neg ne, if_neg (by decide)]
      refine ⟨?_, fun _ => ?_⟩
      · rw [s2]
        show _ = (i + 1, nI (wn_b id len d i), (if (wn_P id len d i).2.1 = 5 then (if nI (wn_b id len d i) = 1 - (wn_P id len d i).1 then 2 else 1) else (if nI (wn_b id len d i) = (wn_P id len d i).1 then (wn_P id len d i).2.1 + 1 else 1)), 0)
        rw [if_pos e]
      · show (wn_W id len d (wn_o id len d i + 1)).1 = i
        rw [s1]
    · rw [if_neg e]
      have s1 : wn_W id len d (wn_o id len d i + 1) = (i + 1, nI (wn_b id len d i), if nI (wn_b id len d i) = (wn_P id len d i).1 then (wn_P id len d i).2.1 + 1 else 1, 0) := by
        rw [wn_Ws, ih]
        unfold wn_nx
        dsimp only
        rw [if_neg ne, if_neg e]
      refine ⟨?_, fun _ => ?_⟩
      · rw [s1]
        show _ = (i + 1, nI (wn_b id len d i), (if (wn_P id len d i).2.1 = 5 then (if nI (wn_b id len d i) = 1 - (wn_P id len d i).1 then 2 else 1) else (if nI (wn_b id len d i) = (wn_P id len d i).1 then (wn_P id len d i).2.1 + 1 else 1)), 0)
        rw [if_neg e]
      · show (wn_W id len d (wn_o id len d i)).1 = i
        rw [ih]
theorem wn_nx_le (id len d : Nat) (w : Nat × Int32 × Nat × Nat) : w.1 ≤ (wn_nx id len d w).1 := by
  unfold wn_nx
  split
  · exact Nat.le_refl _
  · split
    · exact Nat.le_refl _
    · exact Nat.le_succ _
theorem wn_W_mono (id len d j k : Nat) : (wn_W id len d j).1 ≤ (wn_W id len d (j + k)).1 := by
  induction k with
  | zero => exact Nat.le_refl _
  | succ k ih => exact Nat.le_trans ih (wn_nx_le id len d _)
theorem wn_W_ge {id len d i j : Nat} (hi : i ≤ 34 + 8 * len) (h : wn_o id len d i ≤ j) : i ≤ (wn_W id len d j).1 := by
  have a := wn_W_mono id len d (wn_o id len d i) (j - wn_o id len d i)
  rw [show wn_o id len d i + (j - wn_o id len d i) = j by omega, (wn_W_o id len d i hi).1] at a
  exact a
theorem wn_W_lt {id len d i j : Nat} (hi : i ≤ 34 + 8 * len) (h : j < wn_o id len d i) : (wn_W id len d j).1 < i := by
  have h0 : i ≠ 0 := by
    intro e
    rw [e, wn_o_0] at h
    omega
  have a := wn_W_mono id len d j (wn_o id len d i - 1 - j)
  rw [show j + (wn_o id len d i - 1 - j) = wn_o id len d i - 1 by omega, (wn_W_o id len d i hi).2 h0] at a
  omega
theorem wn_W_tc (id len d j : Nat) : (wn_W id len d j).2.2.2 = j - wn_o id len d (34 + 8 * len) := by
  induction j with
  | zero => exact (Nat.zero_sub _).symm
  | succ j ih =>
    rw [wn_Ws]
    rcases Nat.lt_or_ge j (wn_o id len d (34 + 8 * len)) with h | h
    · have a := wn_W_lt (Nat.le_refl _) h
      have e : (wn_nx id len d (wn_W id len d j)).2.2.2 = (wn_W id len d j).2.2.2 := by
        unfold wn_nx
        rw [if_neg (by omega)]
        split <;> rfl
      rw [e, ih]
      omega
    · have a := wn_W_ge (id := id) (len := len) (d := d) (Nat.le_refl _) h
      have b := (wn_wfW id len d j).1
      have e : (wn_nx id len d (wn_W id len d j)).2.2.2 = (wn_W id len d j).2.2.2 + 1 := by
        unfold wn_nx
        rw [if_pos (by omega)]
      rw [e, ih]
      omega
/-- a disturbance counts from behind the id to the first bit of the tail -/
theorem wn_ct_iff (id len d j : Nat) : wn_ct len (wn_W id len d j) ↔ wn_o id len d 12 ≤ j ∧ j ≤ wn_o id len d (34 + 8 * len) := by
  unfold wn_ct
  rw [wn_W_tc]
  have hw := (wn_wfW id len d j).1
  have lt := wn_o_lt id len d 12 (22 + 8 * len)
  rw [show 12 + (22 + 8 * len) = 34 + 8 * len by omega] at lt
  constructor
  · rintro ⟨a, b⟩
    refine ⟨?_, ?_⟩
    · rcases Nat.lt_or_ge j (wn_o id len d 12) with h | h
      · have := wn_W_lt (id := id) (len := len) (d := d) (i := 12) (by omega) h
        omega
      · exact h
    · rcases Nat.lt_or_ge (wn_o id len d (34 + 8 * len)) j with h | h
      · have := wn_W_ge (id := id) (len := len) (d := d) (Nat.le_refl _) (Nat.le_of_lt h)
        have := b (by omega)
        omega
      · exact h
  · rintro ⟨a, b⟩
    exact ⟨wn_W_ge (by omega) a, fun _ => by omega⟩
theorem wn_W_T (id len d j : Nat) : (wn_W id len d j).1 = 34 + 8 * len ↔ wn_o id len d (34 + 8 * len) ≤ j := by
  have hw := (wn_wfW id len d j).1
  constructor
  · intro e
    rcases Nat.lt_or_ge j (wn_o id len d (34 + 8 * len)) with h | h
    · have := wn_W_lt (id := id) (len := len) (d := d) (Nat.le_refl _) h
      omega
    · exact h
  · intro h
    have := wn_W_ge (id := id) (len := len) (d := d) (Nat.le_refl _) h
    omega
end
section
/-! ===== small numbers as ints; the law's own count of bits ===== -/
theorem wn_sl : ∀ n, n < 32 → ((nI n &&& 31).toBitVec.smod 32).toNat = n := by decide +kernel
theorem wn_bit {v k : Nat} {y : Int32} (hy : y = nI k) (hv : v < 2 ^ 31) (hk : k < 32) : (nI v >>> (y &&& 31)) &&& 1 = nI (v / 2 ^ k % 2) := by
  subst hy
  rw [pk_shrN hv (nI k &&& 31) k (wn_sl k hk)]
  have h : v / 2 ^ k ≤ v := Nat.div_le_self _ _
  exact pk_andN (by omega) (m := 1) 1 (by decide)
theorem wn_dbit {n k : Nat} {y : Int32} (hy : y = nI k) (hn : n < 2 ^ 64) (hk : k < 64) : ((((lN n).toUInt64 >>> (y.toInt64.toUInt64 &&& Int64.toUInt64 63)).toInt64).toInt32) &&& 1 = nI (n / 2 ^ k % 2) := by
  subst hy
  rw [wb_shr hn hk, lN_i, pk_and _ (m := 1) 1 (by decide)]
  have e : (nI (n / 2 ^ k)).toBitVec.toNat = n / 2 ^ k % 2 ^ 32 := by
    show (BitVec.ofNat 32 _).toNat = _
    rw [BitVec.toNat_ofNat]
  rw [e]
  generalize n / 2 ^ k = z
  congr 1
  omega
theorem wn_tb {c b : Nat} (hc : c < 32768) : nI b ^^^ ((nI c >>> ((14 : Int32) &&& 31)) &&& 1) = nI (b ^^^ (c / 16384 % 2)) := by
  rw [wn_bit (v := c) (k := 14) (y := 14) rfl (by omega) (by omega), nx_xor]
theorem wn_csL {c : Nat} (hc : c < 32768) : (nI c <<< ((1 : Int32) &&& 31)) &&& 32767 = nI (2 * c % 32768) := by
  rw [pk_shlN ((1 : Int32) &&& 31) 1 (by decide) (by omega), pk_andN (by omega) (m := 32767) 15 (by decide)]
  congr 1
  omega
theorem wn_csX {c : Nat} (hc : c < 32768) : (2 * nI c) &&& 32767 = nI (2 * c % 32768) := by
  have e : (2 : Int32) * nI c = nI (2 * c) := pk_mul 2 c
  rw [e, pk_andN (by omega) (m := 32767) 15 (by decide)]
theorem wn_cs1 {c b : Nat} (h : b ^^^ (c / 16384 % 2) = 1) : nI (2 * c % 32768) ^^^ 17817 = nI (wn_cs c b) := by
  have e : nI (2 * c % 32768) ^^^ 17817 = nI ((2 * c % 32768) ^^^ 17817) := nx_xor _ 17817
  unfold wn_cs
  rw [if_pos h, e]
theorem wn_cs0 {c b : Nat} (h : ¬ b ^^^ (c / 16384 % 2) = 1) : nI (2 * c % 32768) ^^^ 0 = nI (wn_cs c b) := by
  have e : nI (2 * c % 32768) ^^^ 0 = nI ((2 * c % 32768) ^^^ 0) := nx_xor _ 0
  unfold wn_cs
  rw [if_neg h, e]
theorem wn_xlt {c b : Nat} (hb : b < 2) : b ^^^ (c / 16384 % 2) < 2 := Nat.xor_lt_two_pow (n := 1) hb (by omega)
theorem wn_pl (L : Nat) : (19 : Int32) + 8 * nI L = nI (19 + 8 * L) := by
  show nI 19 + nI 8 * nI L = _
  rw [pk_mul, nI_add]
theorem wn_pl15 (L : Nat) : ((19 : Int32) + 8 * nI L) + 15 = nI (34 + 8 * L) := by
  rw [wn_pl]
  show nI _ + nI 15 = _
  rw [nI_add]
  congr 1
  omega
theorem wn_x2 (a b : Nat) : 2 * nI a + nI b = nI (2 * a + b) := by
  show nI 2 * nI a + nI b = _
  rw [pk_mul, nI_add]
/-- the frame's data, cut: its bits below the cut are the data's -/
theorem wn_cut (d m k : Nat) (h : k < m) : d % 2 ^ m / 2 ^ k % 2 = d / 2 ^ k % 2 := by
  have a := Nat.testBit_mod_two_pow d m k
  rw [Nat.testBit_eq_decide_div_mod_eq, Nat.testBit_eq_decide_div_mod_eq] at a
  simp only [h, decide_true, Bool.true_and, decide_eq_decide] at a
  omega
theorem wn_b224 {post : Int32 → Prop} {J : Int32 → Int32 → Int32 → Int32 → Int32 → Int32 → Prop} {x0 x1 : Int32} {x2 : Int64} {x4 x9 x10 x12 c z : Int32} {o i : Nat} (hi : i < 1000)
    (H : J (nI (o + 1)) x12 z c (if i = 11 then nI (o + 1) else x9) (nI (i + 1))) : wL_bits_224 post J x0 x1 x2 x4 (nI o) c x9 x10 (nI i) x12 z := by
  unfold wL_bits_224
  refine nm_r (nI_1 o) (pk_eq i 11 (fun e => nm_r (nI_1 i) ?_) (fun e => nm_r (nI_1 i) ?_))
  · rw [if_pos e] at H
    exact H
  · rw [if_neg e] at H
    exact H
theorem wn_b209 {post : Int32 → Prop} {J : Int32 → Int32 → Int32 → Int32 → Int32 → Int32 → Prop} {x0 x1 : Int32} {x2 : Int64} {x4 x9 x10 x12 c l : Int32} {o i r : Nat} (hi : i < 1000)
    (H : J (nI (o + 1)) x12 (nI (if x12 = l then r + 1 else 1)) c (if i = 11 then nI (o + 1) else x9) (nI (i + 1))) : wL_bits_209 post J x0 x1 x2 x4 (nI o) l (nI r) c x9 x10 (nI i) x12 := by
  unfold wL_bits_209
  refine br_c (fun e => wn_b224 hi ?_) (fun e => wn_b224 hi ?_)
  · rw [if_pos e] at H
    rw [nI_1]
    exact H
  · rw [if_neg e] at H
    exact H
theorem wn_b191 {post : Int32 → Prop} {J : Int32 → Int32 → Int32 → Int32 → Int32 → Int32 → Prop} {x0 x1 : Int32} {x2 : Int64} {x4 x9 x10 x12 c l : Int32} {o i r : Nat} (hi : i < 1000) (hr : r ≤ 5)
    (H : J (nI (if r = 5 then o + 2 else o + 1)) x12 (nI (if r = 5 then (if x12 = 1 - l then 2 else 1) else (if x12 = l then r + 1 else 1))) c (if i = 11 then nI (if r = 5 then o + 2 else o + 1) else x9) (nI (i + 1))) : wL_bits_191 post J x0 x1 x2 x4 (nI o) l (nI r) c x9 x10 (nI i) x12 := by
  unfold wL_bits_191
  refine pk_eq r 5 (fun e => nm_e (nm_r (nI_1 o) (wn_b209 (r := 1) hi ?_))) (fun e => wn_b209 hi ?_)
  · rw [if_pos e, if_pos e] at H
    exact H
  · rw [if_neg e, if_neg e] at H
    exact H
theorem wn_b148 {post : Int32 → Prop} {J : Int32 → Int32 → Int32 → Int32 → Int32 → Int32 → Prop} {x0 x1 : Int32} {x2 : Int64} {x4 x9 l : Int32} {o i r c b pl : Nat} (hi : i < 1000) (hr : r ≤ 5) (hc : c < 32768) (hb : b < 2) (hp : pl < 1000)
    (H : J (nI (if r = 5 then o + 2 else o + 1)) (nI b) (nI (if r = 5 then (if nI b = 1 - l then 2 else 1) else (if nI b = l then r + 1 else 1))) (nI (if i < pl then wn_cs c b else c)) (if i = 11 then nI (if r = 5 then o + 2 else o + 1) else x9) (nI (i + 1))) : wL_bits_148 post J x0 x1 x2 x4 (nI o) l (nI r) (nI c) x9 (nI pl) (nI i) (nI b) := by
  unfold wL_bits_148
  refine pk_le pl i (fun e => wn_b191 hi hr ?_) (fun e => nm_r (wn_tb hc) ?_)
  · rw [if_neg (show ¬ i < pl by omega)] at H
    exact H
  · rw [if_pos e] at H
    have hx := wn_xlt (c := c) hb
    refine pk_eq (b ^^^ (c / 16384 % 2)) 1 (fun t => ?_) (fun t => ?_)
    · unfold wL_bits_188
      rw [wn_csL hc, wn_cs1 t]
      exact nm_e (wn_b191 hi hr H)
    · unfold wL_bits_188
      rw [wn_csL hc, wn_cs0 t]
      exact nm_e (wn_b191 hi hr H)
theorem wn_P_r (id len d i : Nat) : (wn_P id len d i).2.1 ≤ 5 := by
  induction i with
  | zero => exact Nat.zero_le _
  | succ i ih =>
    have h5 : (if (wn_P id len d i).2.1 = 5 then (if nI (wn_b id len d i) = 1 - (wn_P id len d i).1 then 2 else 1) else (if nI (wn_b id len d i) = (wn_P id len d i).1 then (wn_P id len d i).2.1 + 1 else 1)) ≤ 5 := by
      split
      · split <;> omega
      · split <;> omega
    exact h5
theorem wn_bits {post : Int32 → Prop} {id len d wh : Nat} (hid : id < 2048) (hl : len ≤ 8) (hd : d < 2 ^ 64) (hw : wh < 2)
    (H : post (if wh = 0 then nI (wn_o id len d 12) else nI (wn_o id len d (34 + 8 * len)))) : wpL_bits post () (nI id) (nI len) (lN d) (nI wh) := by
  unfold wpL_bits
  refine nm_r (wn_pl len) ?_
  refine pk_loop (σ := Unit) (fun n i _ => wL_bits_27 post (nI id) (nI len) (lN d) (nI wh) (nI (19 + 8 * len)) n (nI (wn_o id len d i)) (wn_P id len d i).1 (nI (wn_P id len d i).2.1) (nI (wn_ck id len d i)) (nI (if 12 ≤ i then wn_o id len d 12 else 0)) (nI i)) (fun _ _ => True) (34 + 8 * len) 0 () (Nat.zero_le _) trivial ?_ ?_
  · intro n _ _
    refine pk_le (19 + 8 * len + 15) (34 + 8 * len) (fun _ => ?_) (fun z => absurd z (by omega)) (nI_add _ 15)
    rw [if_pos (show 12 ≤ 34 + 8 * len by omega)]
    refine pk_eq wh 0 (fun e => ?_) (fun e => ?_)
    · rw [if_pos e] at H
      exact H
    · rw [if_neg e] at H
      exact H
  · intro n i _ hi _ hk
    have K := hk () trivial
    have hc := wn_ck_lt id len d i
    have hr := wn_P_r id len d i
    have hb := wn_b_lt id len d i
    have F : wL_bits_148 post (wL_bits_27 post (nI id) (nI len) (lN d) (nI wh) (nI (19 + 8 * len)) n) (nI id) (nI len) (lN d) (nI wh) (nI (wn_o id len d i)) (wn_P id len d i).1 (nI (wn_P id len d i).2.1) (nI (wn_ck id len d i)) (nI (if 12 ≤ i then wn_o id len d 12 else 0)) (nI (19 + 8 * len)) (nI i) (nI (wn_b id len d i)) := by
      refine wn_b148 (by omega) hr hc hb (by omega) ?_
      have e9 : (if i = 11 then nI (if (wn_P id len d i).2.1 = 5 then wn_o id len d i + 2 else wn_o id len d i + 1) else nI (if 12 ≤ i then wn_o id len d 12 else 0)) = nI (if 12 ≤ i + 1 then wn_o id len d 12 else 0) := by
        by_cases e : i = 11
        · rw [if_pos e, if_pos (show 12 ≤ i + 1 by omega), ← wn_o_s, e]
        · rw [if_neg e]
          by_cases e2 : 12 ≤ i
          · rw [if_pos e2, if_pos (by omega)]
          · rw [if_neg e2, if_neg (by omega)]
      rw [e9]
      exact K
    refine pk_le (19 + 8 * len + 15) i (fun z => absurd z (by omega)) (fun _ => ?_) (nI_add _ 15)
    refine pk_lt i 1 (fun h0 => ?_) (fun h1 => pk_le 12 i (fun h2 => ?_) (fun h2 => nm_r ?_ F))
    · have e0 : i = 0 := by omega
      rw [e0, wn_b_0] at F
      rw [e0]
      unfold wL_bits_67
      refine pk_lt 0 15 (fun _ => ?_) (fun z => absurd z (by omega))
      unfold wL_bits_95
      refine pk_lt 0 19 (fun _ => ?_) (fun z => absurd z (by omega))
      unfold wL_bits_126
      exact pk_lt 0 (19 + 8 * len) (fun _ => F) (fun z => absurd z (by omega))
    · unfold wL_bits_67
      refine pk_lt i 15 (fun h3 => ?_) (fun h3 => pk_le 19 i (fun h4 => ?_) (fun h4 => nm_r ?_ F))
      · rw [wn_b_z h2 h3] at F
        unfold wL_bits_95
        refine pk_lt i 19 (fun _ => ?_) (fun z => absurd z (by omega))
        unfold wL_bits_126
        exact pk_lt i (19 + 8 * len) (fun _ => F) (fun z => absurd z (by omega))
      · unfold wL_bits_95
        refine pk_lt i 19 (fun z => absurd z (by omega)) (fun _ => pk_le (19 + 8 * len) i (fun h5 => ?_) (fun h5 => nm_r ?_ F))
        · unfold wL_bits_126
          refine pk_lt i (19 + 8 * len) (fun z => absurd z (by omega)) (fun _ => nm_r ?_ F)
          rw [wn_b_c h5]
          refine wn_bit ?_ (by omega) (by omega)
          have e : nI (19 + 8 * len) + 14 = nI (33 + 8 * len) := by
            show nI (19 + 8 * len) + nI 14 = _
            rw [nI_add]
            congr 1
            omega
          rw [e, pk_sub (by omega)]
        · rw [wn_b_d h4 h5]
          refine wn_dbit ?_ hd (by omega)
          have e : nI (19 + 8 * len) - 1 = nI (18 + 8 * len) := by
            show nI (19 + 8 * len) - nI 1 = _
            rw [pk_sub (by omega)]
            congr 1
            omega
          rw [e, pk_sub (by omega)]
      · rw [wn_b_len h3 h4]
        exact wn_bit (pk_sub (a := 18) (by omega)) (by omega) (by omega)
    · rw [wn_b_id h1 h2]
      exact wn_bit (pk_sub (a := 11) (by omega)) (by omega) (by omega)
end
section
/-! ===== listening and sending, one node ===== -/
/-- listener n stands at w -/
def wn_R (id len d : Nat) (w : Nat × Int32 × Nat × Nat) (a17 a18 a19 a20 a21 a22 a24 a25 : Nat → Int32) (n : Nat) : Prop :=
  a17 n = nI w.1 ∧ a18 n = w.2.1 ∧ a19 n = nI w.2.2.1 ∧ a20 n = nI (wn_ck id len d w.1) ∧ a21 n = nI (wn_hI id w.1) ∧ a22 n = nI (wn_hL len w.1) ∧ a24 n = nI (wn_hC id len d w.1) ∧ a25 n = nI w.2.2.2
/-- the other listeners stand as before -/
def wn_O (n : Nat) (a17 a18 a19 a20 a21 a22 a24 a25 b17 b18 b19 b20 b21 b22 b24 b25 : Nat → Int32) : Prop :=
  ∀ k, k ≠ n → b17 k = a17 k ∧ b18 k = a18 k ∧ b19 k = a19 k ∧ b20 k = a20 k ∧ b21 k = a21 k ∧ b22 k = a22 k ∧ b24 k = a24 k ∧ b25 k = a25 k
theorem wn_RO {id len d n k : Nat} {w : Nat × Int32 × Nat × Nat} {a17 a18 a19 a20 a21 a22 a24 a25 b17 b18 b19 b20 b21 b22 b24 b25 : Nat → Int32} (hO : wn_O n a17 a18 a19 a20 a21 a22 a24 a25 b17 b18 b19 b20 b21 b22 b24 b25) (hk : k ≠ n) (h : wn_R id len d w a17 a18 a19 a20 a21 a22 a24 a25 k) : wn_R id len d w b17 b18 b19 b20 b21 b22 b24 b25 k := by
  obtain ⟨o1, o2, o3, o4, o5, o6, o7, o8⟩ := hO k hk
  obtain ⟨r1, r2, r3, r4, r5, r6, r7, r8⟩ := h
  exact ⟨o1.trans r1, o2.trans r2, o3.trans r3, o4.trans r4, o5.trans r5, o6.trans r6, o7.trans r7, o8.trans r8⟩
/-- the frame that waits in node n, at its first place -/
def wn_C (id len d n : Nat) (a7 a8 : Nat → Int32) (a9 : Nat → Int64) : Prop := a7 (4 * n) = nI id ∧ a8 (4 * n) = nI len ∧ a9 (4 * n) = lN (d % 2 ^ (8 * len))

theorem wn_inTail {post : Int32 → Prop} {ph lf ck sc di : Int32} {a1 a2 a3 a4 a5 a6 a7 a8 a10 a11 a12 a14 a15 a16 a17 a18 a19 a20 a21 a22 a24 a25 : Nat → Int32} {a9 a13 a23 : Nat → Int64} {n i len : Nat} (hn : n < 5) (hl : len ≤ 8) (hi : i ≤ 34 + 8 * len) (h17 : a17 n = nI i) (h22 : a22 n = nI (wn_hL len i)) (H : post (if i = 34 + 8 * len then 1 else 0)) : wpX_inTail post (ph, lf, ck, sc, di, a1, a2, a3, a4, a5, a6, a7, a8, a9, a10, a11, a12, a13, a14, a15, a16, a17, a18, a19, a20, a21, a22, a23, a24, a25) (nI n) := by
  have e : (nI n).toNatClampNeg = n := nI_clamp (by omega)
  have iv : vp_in (nI n) 5 := vp_in_nI hn (by decide)
  unfold wpX_inTail wpX_plainBits
  dsimp only
  rw [e, h17, h22]
  refine ⟨iv, pk_lt i 19 (fun h => ?_) (fun h => ⟨iv, iv, pk_le 19 i (fun _ => ⟨iv, ?_⟩) (fun z => absurd z (by omega))⟩)⟩
  · rw [if_neg (by omega)] at H
    exact H
  · rw [wn_hL_t h, wn_pl15]
    refine pk_eq i (34 + 8 * len) (fun z => ?_) (fun z => ?_)
    · rw [if_pos z] at H
      exact H
    · rw [if_neg z] at H
      exact H
theorem wn_isStuffed {post : Int32 → Prop} {ph lf ck sc di : Int32} {a1 a2 a3 a4 a5 a6 a7 a8 a10 a11 a12 a14 a15 a16 a17 a18 a19 a20 a21 a22 a24 a25 : Nat → Int32} {a9 a13 a23 : Nat → Int64} {n i r len : Nat} (hn : n < 5) (hl : len ≤ 8) (hi : i ≤ 34 + 8 * len) (hr : r ≤ 5) (h17 : a17 n = nI i) (h19 : a19 n = nI r) (h22 : a22 n = nI (wn_hL len i)) (H : post (if r = 5 ∧ ¬ i = 34 + 8 * len then 1 else 0)) : wpX_isStuffed post (ph, lf, ck, sc, di, a1, a2, a3, a4, a5, a6, a7, a8, a9, a10, a11, a12, a13, a14, a15, a16, a17, a18, a19, a20, a21, a22, a23, a24, a25) (nI n) := by
  have e : (nI n).toNatClampNeg = n := nI_clamp (by omega)
  have iv : vp_in (nI n) 5 := vp_in_nI hn (by decide)
  unfold wpX_isStuffed
  dsimp only
  rw [e, h19]
  refine ⟨iv, pk_eq r 5 (fun h => wn_inTail hn hl hi h17 h22 ?_) (fun h => ?_)⟩
  · by_cases z : i = 34 + 8 * len
    · rw [if_pos z]
      rw [if_neg (fun y => y.2 z)] at H
      exact br_f (by decide) H
    · rw [if_neg z]
      rw [if_pos ⟨h, z⟩] at H
      exact br_t rfl H
  · rw [if_neg (fun y => h y.1)] at H
    exact H
theorem wn_tp148 {post : St2 → Prop} {ph lf ck sc di : Int32} {a1 a2 a3 a4 a5 a6 a7 a8 a10 a11 a12 a14 a15 a16 a17 a18 a19 a20 a21 a22 a24 a25 : Nat → Int32} {a9 a13 a23 : Nat → Int64} {n c b : Nat} (hn : n < 5) (hc : c < 32768) (hb : b < 2) (h20 : a20 n = nI c) (H : ∀ b20 : Nat → Int32, (∀ k, k ≠ n → b20 k = a20 k) → b20 n = nI (wn_cs c b) → post (ph, lf, ck, sc, di, a1, a2, a3, a4, a5, a6, a7, a8, a9, a10, a11, a12, a13, a14, a15, a16, a17, a18, a19, b20, a21, a22, a23, a24, a25)) : wX_takePlain_148 post (nI n) (nI b) ph lf ck sc di a1 a2 a3 a4 a5 a6 a7 a8 a9 a10 a11 a12 a13 a14 a15 a16 a17 a18 a19 a20 a21 a22 a23 a24 a25 := by
  have e : (nI n).toNatClampNeg = n := nI_clamp (by omega)
  have iv : vp_in (nI n) 5 := vp_in_nI hn (by decide)
  have hx := wn_xlt (c := c) hb
  unfold wX_takePlain_148
  rw [e, h20]
  refine ⟨iv, nm_r (wn_tb hc) ⟨iv, pk_eq (b ^^^ (c / 16384 % 2)) 1 (fun t => ⟨iv, nm_e ?_⟩) (fun t => ⟨iv, nm_e ?_⟩)⟩⟩
  · rw [wn_csX hc, wn_cs1 t]
    exact H _ (fun k hk => pk_un hk) pk_us
  · rw [wn_csX hc, wn_cs0 t]
    exact H _ (fun k hk => pk_un hk) pk_us
theorem wn_tp136 {post : St2 → Prop} {ph lf ck sc di : Int32} {a1 a2 a3 a4 a5 a6 a7 a8 a10 a11 a12 a14 a15 a16 a17 a18 a19 a20 a21 a22 a24 a25 : Nat → Int32} {a9 a13 a23 : Nat → Int64} {id len d n i dl : Nat} (hn : n < 5) (hl : len ≤ 8) (hi : i < 34 + 8 * len) (hd1 : 19 ≤ i → dl = len) (hd2 : dl ≤ 8) (h20 : a20 n = nI (wn_ck id len d i)) (H : ∀ b20 : Nat → Int32, (∀ k, k ≠ n → b20 k = a20 k) → b20 n = nI (wn_ck id len d (i + 1)) → post (ph, lf, ck, sc, di, a1, a2, a3, a4, a5, a6, a7, a8, a9, a10, a11, a12, a13, a14, a15, a16, a17, a18, a19, b20, a21, a22, a23, a24, a25)) : wX_takePlain_136 post (nI n) (nI (wn_b id len d i)) (nI i) (nI (19 + 8 * dl)) ph lf ck sc di a1 a2 a3 a4 a5 a6 a7 a8 a9 a10 a11 a12 a13 a14 a15 a16 a17 a18 a19 a20 a21 a22 a23 a24 a25 := by
  unfold wX_takePlain_136
  refine pk_lt i 19 (fun h => wn_tp148 hn (wn_ck_lt _ _ _ _) (wn_b_lt _ _ _ _) h20 ?_) (fun h => pk_le (19 + 8 * dl) i (fun g => ?_) (fun g => wn_tp148 hn (wn_ck_lt _ _ _ _) (wn_b_lt _ _ _ _) h20 ?_))
  · intro b20 k1 k2
    exact H b20 k1 (by rw [k2, wn_ck_s _ _ _ _ (by omega)])
  · have := hd1 h
    exact H a20 (fun _ _ => rfl) (by rw [h20, wn_ck_e _ _ _ _ (by omega)])
  · intro b20 k1 k2
    have := hd1 h
    exact H b20 k1 (by rw [k2, wn_ck_s _ _ _ _ (by omega)])
theorem wn_takePlain {post : St2 → Prop} {ph lf ck sc di : Int32} {a1 a2 a3 a4 a5 a6 a7 a8 a10 a11 a12 a14 a15 a16 a17 a18 a19 a20 a21 a22 a24 a25 : Nat → Int32} {a9 a13 a23 : Nat → Int64} {id len d n i : Nat} (hn : n < 5) (hid : id < 2048) (hl : len ≤ 8) (hi : i < 34 + 8 * len) (h17 : a17 n = nI i) (h20 : a20 n = nI (wn_ck id len d i)) (h21 : a21 n = nI (wn_hI id i)) (h22 : a22 n = nI (wn_hL len i)) (h24 : a24 n = nI (wn_hC id len d i))
    (H : ∀ (b20 b21 b22 : Nat → Int32) (b23 : Nat → Int64) (b24 : Nat → Int32), (∀ k, k ≠ n → b20 k = a20 k ∧ b21 k = a21 k ∧ b22 k = a22 k ∧ b24 k = a24 k) → b20 n = nI (wn_ck id len d (i + 1)) → b21 n = nI (wn_hI id (i + 1)) → b22 n = nI (wn_hL len (i + 1)) → b24 n = nI (wn_hC id len d (i + 1)) → post (ph, lf, ck, sc, di, a1, a2, a3, a4, a5, a6, a7, a8, a9, a10, a11, a12, a13, a14, a15, a16, a17, a18, a19, b20, b21, b22, b23, b24, a25)) : wpX_takePlain post (ph, lf, ck, sc, di, a1, a2, a3, a4, a5, a6, a7, a8, a9, a10, a11, a12, a13, a14, a15, a16, a17, a18, a19, a20, a21, a22, a23, a24, a25) (nI n) (nI (wn_b id len d i)) := by
  have e : (nI n).toNatClampNeg = n := nI_clamp (by omega)
  have iv : vp_in (nI n) 5 := vp_in_nI hn (by decide)
  have kI : (i = 0 ∨ 12 ≤ i) → a21 n = nI (wn_hI id (i + 1)) := by
    intro h
    rcases h with h | h
    · rw [h21, h, wn_hI_0 hid]
    · rw [h21, wn_hI_e h]
  have kL : (i < 15 ∨ 19 ≤ i) → a22 n = nI (wn_hL len (i + 1)) := by
    intro h
    rcases h with h | h
    · rw [h22, wn_hL_z hl (by omega), wn_hL_z hl (by omega)]
    · rw [h22, wn_hL_t h, wn_hL_t (by omega)]
  have kC : i < 19 + 8 * len → a24 n = nI (wn_hC id len d (i + 1)) := by
    intro h
    rw [h24, wn_hC_z (by omega), wn_hC_z (by omega)]
  have P136 : (i = 0 ∨ 12 ≤ i) → i < 15 → wX_takePlain_136 post (nI n) (nI (wn_b id len d i)) (nI i) (nI (19 + 8 * wn_hL len i)) ph lf ck sc di a1 a2 a3 a4 a5 a6 a7 a8 a9 a10 a11 a12 a13 a14 a15 a16 a17 a18 a19 a20 a21 a22 a23 a24 a25 := fun h g =>
    wn_tp136 hn hl hi (fun z => wn_hL_t z) (wn_hL_le hl) h20 (fun b20 k0 k1 => H b20 a21 a22 a23 a24 (fun k hk => ⟨k0 k hk, rfl, rfl, rfl⟩) k1 (kI h) (kL (Or.inl g)) (kC (by omega)))
  have P51 : (i = 0 ∨ 12 ≤ i) → wX_takePlain_51 post (nI n) (nI (wn_b id len d i)) (nI i) (nI (19 + 8 * wn_hL len i)) ph lf ck sc di a1 a2 a3 a4 a5 a6 a7 a8 a9 a10 a11 a12 a13 a14 a15 a16 a17 a18 a19 a20 a21 a22 a23 a24 a25 := by
    intro h
    have hle : wn_hL len i ≤ 8 := wn_hL_le hl
    unfold wX_takePlain_51
    rw [e]
    refine pk_lt i 15 (fun g => ?_) (fun g => pk_le 19 i (fun g2 => ?_) (fun g2 => ⟨iv, iv, nm_e ?_⟩))
    · unfold wX_takePlain_82
      refine pk_lt i 19 (fun _ => ?_) (fun z => absurd z (by omega))
      unfold wX_takePlain_114
      exact pk_lt i 19 (fun _ => P136 h g) (fun z => absurd z (by omega))
    · unfold wX_takePlain_82
      rw [e]
      refine pk_lt i 19 (fun z => absurd z (by omega)) (fun _ => pk_le (19 + 8 * wn_hL len i) i (fun g3 => ?_) (fun g3 => ⟨iv, iv, nm_e ?_⟩))
      · unfold wX_takePlain_114
        rw [e]
        have g4 := g3
        rw [wn_hL_t g2] at g4
        refine pk_lt i 19 (fun z => absurd z (by omega)) (fun _ => ⟨iv, iv, nm_e ?_⟩)
        refine wn_tp136 hn hl hi (fun z => wn_hL_t z) (wn_hL_le hl) h20 (fun b20 k0 k1 => H b20 a21 a22 a23 _ (fun k hk => ⟨k0 k hk, rfl, rfl, pk_un hk⟩) k1 (kI h) (kL (Or.inr g2)) ?_)
        rw [pk_us, h24, wn_x2, wn_hC_s g4 hi, wn_b_c g4]
      · have g4 := g3
        rw [wn_hL_t g2] at g4
        exact wn_tp136 hn hl hi (fun z => wn_hL_t z) (wn_hL_le hl) h20 (fun b20 k0 k1 => H b20 a21 a22 _ a24 (fun k hk => ⟨k0 k hk, rfl, rfl, rfl⟩) k1 (kI h) (kL (Or.inr g2)) (kC g4))
    · refine wn_tp136 hn hl hi (fun z => wn_hL_t z) (wn_hL_le hl) h20 (fun b20 k0 k1 => H b20 a21 _ a23 a24 (fun k hk => ⟨k0 k hk, rfl, pk_un hk, rfl⟩) k1 (kI h) ?_ (kC (by omega)))
      rw [pk_us, h22, wn_x2, wn_hL_s g g2, wn_b_len g g2]
  unfold wpX_takePlain
  dsimp only
  rw [e, h17, h22]
  refine ⟨iv, nm_e ⟨iv, nm_r (wn_pl _) (pk_lt i 1 (fun h => P51 (Or.inl (by omega))) (fun h1 => pk_le 12 i (fun h2 => P51 (Or.inr h2)) (fun h2 => ⟨iv, iv, nm_e ?_⟩)))⟩⟩
  refine wn_tp136 hn hl hi (fun z => wn_hL_t z) (wn_hL_le hl) h20 (fun b20 k0 k1 => H b20 _ a22 a23 a24 (fun k hk => ⟨k0 k hk, pk_un hk, rfl, rfl⟩) k1 ?_ (kL (Or.inl (by omega))) (kC (by omega)))
  rw [pk_us, h21, wn_x2, wn_hI_s h1 h2, wn_b_id h1 h2]
theorem wn_listen {post : St2 → Prop} {ph lf ck sc di : Int32} {a1 a2 a3 a4 a5 a6 a7 a8 a10 a11 a12 a14 a15 a16 a17 a18 a19 a20 a21 a22 a24 a25 : Nat → Int32} {a9 a13 a23 : Nat → Int64} {id len d n : Nat} {w : Nat × Int32 × Nat × Nat} (hn : n < 5) (hid : id < 2048) (hl : len ≤ 8) (hw : wn_wf len w) (hR : wn_R id len d w a17 a18 a19 a20 a21 a22 a24 a25 n)
    (H : ∀ (b17 b18 b19 b20 b21 b22 : Nat → Int32) (b23 : Nat → Int64) (b24 b25 : Nat → Int32), wn_O n a17 a18 a19 a20 a21 a22 a24 a25 b17 b18 b19 b20 b21 b22 b24 b25 → wn_R id len d (wn_nx id len d w) b17 b18 b19 b20 b21 b22 b24 b25 n → post (ph, lf, ck, sc, di, a1, a2, a3, a4, a5, a6, a7, a8, a9, a10, a11, a12, a13, a14, a15, a16, b17, b18, b19, b20, b21, b22, b23, b24, b25)) : wpX_listen post (ph, lf, ck, sc, di, a1, a2, a3, a4, a5, a6, a7, a8, a9, a10, a11, a12, a13, a14, a15, a16, a17, a18, a19, a20, a21, a22, a23, a24, a25) (nI n) (wn_lv id len d w) := by
  obtain ⟨i, l, r, t⟩ := w
  obtain ⟨w1, w2, w3⟩ := hw
  obtain ⟨h17, h18, h19, h20, h21, h22, h24, h25⟩ := hR
  dsimp only at w1 w2 w3 h17 h18 h19 h20 h21 h22 h24 h25
  have e : (nI n).toNatClampNeg = n := nI_clamp (by omega)
  have iv : vp_in (nI n) 5 := vp_in_nI hn (by decide)
  unfold wpX_listen
  dsimp only
  refine wn_inTail hn hl w1 h17 h22 ?_
  by_cases e1 : i = 34 + 8 * len
  · have en : wn_nx id len d (i, l, r, t) = (i, l, r, t + 1) := by
      unfold wn_nx
      dsimp only
      rw [if_pos e1]
    rw [en] at H
    rw [if_pos e1, e]
    exact br_f (by decide) ⟨iv, iv, nm_e (H a17 a18 a19 a20 a21 a22 a23 a24 _ (fun k hk => ⟨rfl, rfl, rfl, rfl, rfl, rfl, rfl, pk_un hk⟩) ⟨h17, h18, h19, h20, h21, h22, h24, by rw [pk_us, h25]; exact nI_1 t⟩)⟩
  · rw [if_neg e1]
    refine br_t rfl (wn_isStuffed hn hl w1 w2 h17 h19 h22 ?_)
    by_cases e2 : r = 5
    · have en : wn_nx id len d (i, l, r, t) = (i, 1 - l, 1, t) := by
        unfold wn_nx
        dsimp only
        rw [if_neg e1, if_pos e2]
      have el : wn_lv id len d (i, l, r, t) = 1 - l := by
        unfold wn_lv
        dsimp only
        rw [if_neg e1, if_pos e2]
      have ne : ¬ 1 - l = l := by
        rcases w3 (by omega) with z | z
        · rw [z]; decide
        · rw [z]; decide
      rw [en] at H
      rw [if_pos ⟨e2, e1⟩, el]
      rw [e, h18]
      refine ⟨iv, br_f ne ?_⟩
      unfold wX_listen_52
      rw [e]
      exact ⟨iv, nm_e ⟨iv, nm_e (br_f (by decide) (H a17 _ _ a20 a21 a22 a23 a24 a25 (fun k hk => ⟨rfl, pk_un hk, pk_un hk, rfl, rfl, rfl, rfl, rfl⟩) ⟨h17, pk_us, pk_us, h20, h21, h22, h24, h25⟩))⟩⟩
    · have en : wn_nx id len d (i, l, r, t) = (i + 1, nI (wn_b id len d i), if nI (wn_b id len d i) = l then r + 1 else 1, t) := by
        unfold wn_nx
        dsimp only
        rw [if_neg e1, if_neg e2]
      have el : wn_lv id len d (i, l, r, t) = nI (wn_b id len d i) := by
        unfold wn_lv
        dsimp only
        rw [if_neg e1, if_neg e2]
      rw [en] at H
      rw [if_neg (fun z => e2 z.1), el]
      have L52 : ∀ r' : Nat, r' = (if nI (wn_b id len d i) = l then r + 1 else 1) → wX_listen_52 post (nI n) (nI (wn_b id len d i)) 0 (nI r') (nI n) ph lf ck sc di a1 a2 a3 a4 a5 a6 a7 a8 a9 a10 a11 a12 a13 a14 a15 a16 a17 a18 a19 a20 a21 a22 a23 a24 a25 := by
        intro r' hr'
        unfold wX_listen_52
        rw [e]
        refine ⟨iv, nm_e ⟨iv, nm_e (br_t rfl (wn_takePlain hn hid hl (by omega) h17 h20 h21 h22 h24 ?_))⟩⟩
        intro b20 b21 b22 b23 b24 hO g20 g21 g22 g24
        dsimp only
        refine ⟨iv, iv, nm_e (H _ _ _ b20 b21 b22 b23 b24 a25 (fun k hk => ⟨pk_un hk, pk_un hk, pk_un hk, (hO k hk).1, (hO k hk).2.1, (hO k hk).2.2.1, (hO k hk).2.2.2, rfl⟩) ⟨?_, pk_us, ?_, g20, g21, g22, g24, h25⟩)⟩
        · rw [pk_us, h17]
          exact nI_1 i
        · rw [pk_us, hr']
      rw [e, h18, h19, nI_1]
      refine ⟨iv, br_c (fun z => ⟨iv, L52 (r + 1) ?_⟩) (fun z => L52 1 ?_)⟩
      · rw [if_pos z]
      · rw [if_neg z]
theorem wn_plainBit {post : Int32 → Prop} {ph lf ck sc di : Int32} {a1 a2 a3 a4 a5 a6 a7 a8 a10 a11 a12 a14 a15 a16 a17 a18 a19 a20 a21 a22 a24 a25 : Nat → Int32} {a9 a13 a23 : Nat → Int64} {id len d n i : Nat} (hn : n < 5) (hid : id < 2048) (hl : len ≤ 8) (hd : d < 2 ^ 64) (hi : i < 34 + 8 * len) (h16 : a16 n = 0) (h17 : a17 n = nI i) (h20 : a20 n = nI (wn_ck id len d i)) (hC : wn_C id len d n a7 a8 a9) (H : post (nI (wn_b id len d i))) : wpX_plainBit post (ph, lf, ck, sc, di, a1, a2, a3, a4, a5, a6, a7, a8, a9, a10, a11, a12, a13, a14, a15, a16, a17, a18, a19, a20, a21, a22, a23, a24, a25) (nI n) := by
  obtain ⟨h7, h8, h9⟩ := hC
  have e : (nI n).toNatClampNeg = n := nI_clamp (by omega)
  have e4 : (nI (4 * n)).toNatClampNeg = 4 * n := nI_clamp (by omega)
  have iv : vp_in (nI n) 5 := vp_in_nI hn (by decide)
  have iw : vp_in (nI (4 * n)) 20 := vp_in_nI (by omega) (by decide)
  have hc := wn_ck_lt id len d i
  have x4 : (4 : Int32) * nI n + a16 n = nI (4 * n) := by
    rw [h16]
    show nI 4 * nI n + nI 0 = _
    rw [pk_mul, nI_add]
    rfl
  have x8 : (8 : Int32) * nI len = nI (8 * len) := pk_mul 8 len
  have P115 : (i = 0 ∨ 12 ≤ i ∧ i < 15 ∨ 19 + 8 * len ≤ i) → wX_plainBit_115 post (nI n) (nI i) (nI (8 * len)) ph lf ck sc di a1 a2 a3 a4 a5 a6 a7 a8 a9 a10 a11 a12 a13 a14 a15 a16 a17 a18 a19 a20 a21 a22 a23 a24 a25 := by
    intro h
    unfold wX_plainBit_115
    rw [e, h20]
    refine pk_le 19 i (fun g => ⟨iv, ?_⟩) (fun g => ?_)
    · rw [wn_b_c (by omega)] at H
      rw [wn_bit (k := 33 + 8 * len - i) ?_ (by omega) (by omega)]
      · exact H
      · have e1 : (19 : Int32) + nI (8 * len) + 15 - 1 = nI (33 + 8 * len) := by
          show nI 19 + nI (8 * len) + nI 15 - nI 1 = _
          rw [nI_add, nI_add, pk_sub (by omega)]
          congr 1
          omega
        rw [e1, pk_sub (by omega)]
    · rcases h with h | h | h
      · rw [h, wn_b_0] at H
        exact H
      · rw [wn_b_z h.1 h.2] at H
        exact H
      · exact absurd h (by omega)
  have P54 : (i = 0 ∨ 12 ≤ i) → wX_plainBit_54 post (nI n) (nI (4 * n)) (nI i) (nI (8 * len)) ph lf ck sc di a1 a2 a3 a4 a5 a6 a7 a8 a9 a10 a11 a12 a13 a14 a15 a16 a17 a18 a19 a20 a21 a22 a23 a24 a25 := by
    intro h
    unfold wX_plainBit_54
    rw [e4, h8]
    refine pk_lt i 15 (fun g => ?_) (fun g => pk_le 19 i (fun g2 => ?_) (fun g2 => ⟨iw, ?_⟩))
    · unfold wX_plainBit_80
      exact pk_lt i 19 (fun _ => P115 (by omega)) (fun z => absurd z (by omega))
    · unfold wX_plainBit_80
      rw [e4, h9]
      refine pk_lt i 19 (fun z => absurd z (by omega)) (fun _ => pk_le (19 + 8 * len) i (fun g3 => P115 (by omega)) (fun g3 => ⟨iw, ?_⟩) (nI_add 19 (8 * len)))
      rw [wn_b_d g2 g3, ← wn_cut d (8 * len) _ (by omega)] at H
      rw [wn_dbit (k := 18 + 8 * len - i) ?_ (Nat.lt_of_le_of_lt (Nat.mod_le _ _) hd) (by omega)]
      · exact H
      · have e1 : (19 : Int32) + nI (8 * len) - 1 = nI (18 + 8 * len) := by
          show nI 19 + nI (8 * len) - nI 1 = _
          rw [nI_add, pk_sub (by omega)]
          congr 1
          omega
        rw [e1, pk_sub (by omega)]
    · rw [wn_b_len g g2] at H
      rw [wn_bit (v := len) (y := 18 - nI i) (k := 18 - i) (pk_sub (a := 18) (by omega)) (by omega) (by omega)]
      exact H
  unfold wpX_plainBit
  dsimp only
  rw [e, x4, h17]
  refine ⟨iv, nm_e ⟨iv, nm_e ⟨iw, ?_⟩⟩⟩
  rw [e4, h7, h8, x8]
  refine nm_e (pk_lt i 1 (fun g => P54 (Or.inl (by omega))) (fun g1 => pk_le 12 i (fun g2 => P54 (Or.inr g2)) (fun g2 => ⟨iw, ?_⟩)))
  rw [wn_b_id g1 g2] at H
  rw [wn_bit (v := id) (y := 11 - nI i) (k := 11 - i) (pk_sub (a := 11) (by omega)) (by omega) (by omega)]
  exact H
end
section
/-! ===== what a node puts out, and what it hears ===== -/
/-- what the sender, what a receiver puts out at w -/
def wn_oS (id len d : Nat) (w : Nat × Int32 × Nat × Nat) : Int32 := if w.1 = 34 + 8 * len then 1 else wn_lv id len d w
def wn_oR (id len d : Nat) (w : Nat × Int32 × Nat × Nat) : Int32 := if w.1 = 34 + 8 * len then wn_lv id len d w else 1
theorem wn_outS {post : Int32 → Prop} {ph lf ck sc di : Int32} {a1 a2 a3 a4 a5 a6 a7 a8 a10 a11 a12 a14 a15 a16 a17 a18 a19 a20 a21 a22 a24 a25 : Nat → Int32} {a9 a13 a23 : Nat → Int64} {id len d n : Nat} {w : Nat × Int32 × Nat × Nat} (hn : n < 5) (hid : id < 2048) (hl : len ≤ 8) (hd : d < 2 ^ 64) (hw : wn_wf len w) (hR : wn_R id len d w a17 a18 a19 a20 a21 a22 a24 a25 n) (h15 : a15 n = 1) (h16 : a16 n = 0) (hC : wn_C id len d n a7 a8 a9) (H : post (wn_oS id len d w)) : wpX_output post (ph, lf, ck, sc, di, a1, a2, a3, a4, a5, a6, a7, a8, a9, a10, a11, a12, a13, a14, a15, a16, a17, a18, a19, a20, a21, a22, a23, a24, a25) (nI n) := by
  obtain ⟨i, l, r, t⟩ := w
  obtain ⟨w1, w2, w3⟩ := hw
  obtain ⟨h17, h18, h19, h20, h21, h22, h24, h25⟩ := hR
  dsimp only at w1 w2 w3 h17 h18 h19 h20 h21 h22 h24 h25
  have e : (nI n).toNatClampNeg = n := nI_clamp (by omega)
  have iv : vp_in (nI n) 5 := vp_in_nI hn (by decide)
  unfold wn_oS wn_lv at H
  dsimp only at H
  unfold wpX_output
  dsimp only
  refine wn_inTail hn hl w1 h17 h22 ?_
  by_cases e1 : i = 34 + 8 * len
  · rw [if_pos e1] at H
    rw [if_pos e1, e, h15]
    exact br_f (by decide) ⟨iv, br_f (by decide) H⟩
  · rw [if_neg e1, if_neg e1] at H
    rw [if_neg e1, e, h15]
    refine br_t rfl ⟨iv, br_t rfl (wn_isStuffed hn hl w1 w2 h17 h19 h22 ?_)⟩
    by_cases e2 : r = 5
    · rw [if_pos e2] at H
      rw [if_pos ⟨e2, e1⟩, h18]
      exact br_f (by decide) ⟨iv, H⟩
    · rw [if_neg e2] at H
      rw [if_neg (fun z => e2 z.1)]
      exact br_t rfl (wn_plainBit hn hid hl hd (by omega) h16 h17 h20 hC H)
theorem wn_outR {post : Int32 → Prop} {ph lf ck sc di : Int32} {a1 a2 a3 a4 a5 a6 a7 a8 a10 a11 a12 a14 a15 a16 a17 a18 a19 a20 a21 a22 a24 a25 : Nat → Int32} {a9 a13 a23 : Nat → Int64} {id len d n : Nat} {w : Nat × Int32 × Nat × Nat} (hn : n < 5) (hl : len ≤ 8) (hw : wn_wf len w) (ht : w.2.2.2 < 2 ^ 31) (hR : wn_R id len d w a17 a18 a19 a20 a21 a22 a24 a25 n) (h15 : a15 n = 2) (H : post (wn_oR id len d w)) : wpX_output post (ph, lf, ck, sc, di, a1, a2, a3, a4, a5, a6, a7, a8, a9, a10, a11, a12, a13, a14, a15, a16, a17, a18, a19, a20, a21, a22, a23, a24, a25) (nI n) := by
  obtain ⟨i, l, r, t⟩ := w
  obtain ⟨w1, w2, w3⟩ := hw
  obtain ⟨h17, h18, h19, h20, h21, h22, h24, h25⟩ := hR
  dsimp only at w1 w2 w3 h17 h18 h19 h20 h21 h22 h24 h25 ht
  have e : (nI n).toNatClampNeg = n := nI_clamp (by omega)
  have iv : vp_in (nI n) 5 := vp_in_nI hn (by decide)
  unfold wn_oR wn_lv at H
  dsimp only at H
  unfold wpX_output
  dsimp only
  refine wn_inTail hn hl w1 h17 h22 ?_
  by_cases e1 : i = 34 + 8 * len
  · rw [if_pos e1, if_pos e1] at H
    have hc : a24 n = a20 n := by rw [h24, h20, e1, wn_hC_t]
    rw [if_pos e1, e, h15, h25]
    refine br_f (by decide) ⟨iv, br_t rfl ⟨iv, pk_eq t 1 (fun g => ⟨iv, iv, br_t hc ?_⟩) (fun g => ?_)⟩⟩
    · rw [if_pos g] at H
      exact H
    · rw [if_neg g] at H
      exact H
  · rw [if_neg e1] at H
    rw [if_neg e1, e, h15]
    exact br_t rfl ⟨iv, br_f (by decide) H⟩
/-- a node's part in the frame -/
def wn_N (id len d s n : Nat) (a7 a8 a15 a16 : Nat → Int32) (a9 : Nat → Int64) : Prop := (n = s ∧ a15 n = 1 ∧ a16 n = 0 ∧ wn_C id len d n a7 a8 a9) ∨ (n ≠ s ∧ a15 n = 2)
theorem wn_h127 {post : Int32 → St2 → Prop} {ph lf ck sc di : Int32} {a1 a2 a3 a4 a5 a6 a7 a8 a10 a11 a12 a14 a15 a16 a17 a18 a19 a20 a21 a22 a24 a25 : Nat → Int32} {a9 a13 a23 : Nat → Int64} (H : post 0 (ph, lf, ck, sc, di, a1, a2, a3, a4, a5, a6, a7, a8, a9, a10, a11, a12, a13, a14, a15, a16, a17, a18, a19, a20, a21, a22, a23, a24, a25)) : wX_hear_127 post 0 ph lf ck sc di a1 a2 a3 a4 a5 a6 a7 a8 a9 a10 a11 a12 a13 a14 a15 a16 a17 a18 a19 a20 a21 a22 a23 a24 a25 := by
  unfold wX_hear_127
  exact br_t rfl H
theorem wn_h109 {post : Int32 → St2 → Prop} {ph lf ck sc di : Int32} {a1 a2 a3 a4 a5 a6 a7 a8 a10 a11 a12 a14 a15 a16 a17 a18 a19 a20 a21 a22 a24 a25 : Nat → Int32} {a9 a13 a23 : Nat → Int64} {id len d n : Nat} {w : Nat × Int32 × Nat × Nat} {dz cv bv : Int32} (hn : n < 5) (hid : id < 2048) (hl : len ≤ 8) (hw : wn_wf len w) (hR : wn_R id len d w a17 a18 a19 a20 a21 a22 a24 a25 n) (hb : (dz ≠ 0 ∧ cv ≠ 0 ∧ bv = 1) ∨ (¬ (dz ≠ 0 ∧ cv ≠ 0) ∧ bv = 0))
    (H : ∀ (b17 b18 b19 b20 b21 b22 : Nat → Int32) (b23 : Nat → Int64) (b24 b25 : Nat → Int32), wn_O n a17 a18 a19 a20 a21 a22 a24 a25 b17 b18 b19 b20 b21 b22 b24 b25 → wn_R id len d (wn_nx id len d w) b17 b18 b19 b20 b21 b22 b24 b25 n → post bv (ph, lf, ck, sc, di, a1, a2, a3, a4, a5, a6, a7, a8, a9, a10, a11, a12, a13, a14, a15, a16, b17, b18, b19, b20, b21, b22, b23, b24, b25)) : wX_hear_109 post (nI n) (wn_lv id len d w) dz cv ph lf ck sc di a1 a2 a3 a4 a5 a6 a7 a8 a9 a10 a11 a12 a13 a14 a15 a16 a17 a18 a19 a20 a21 a22 a23 a24 a25 := by
  unfold wX_hear_109 wX_hear_110
  refine wn_listen hn hid hl hw hR ?_
  intro b17 b18 b19 b20 b21 b22 b23 b24 b25 hO hR'
  have K := H b17 b18 b19 b20 b21 b22 b23 b24 b25 hO hR'
  dsimp only
  rcases hb with ⟨z1, z2, z3⟩ | ⟨z1, z3⟩
  · rw [z3] at K
    exact br_f z1 (br_f z2 K)
  · rw [z3] at K
    exact br_c (fun _ => wn_h127 K) (fun y1 => br_c (fun _ => wn_h127 K) (fun y2 => absurd ⟨y1, y2⟩ z1))
theorem wn_h70 {post : Int32 → St2 → Prop} {ph lf ck sc di : Int32} {a1 a2 a3 a4 a5 a6 a7 a8 a10 a11 a12 a14 a15 a16 a17 a18 a19 a20 a21 a22 a24 a25 : Nat → Int32} {a9 a13 a23 : Nat → Int64} {id len d n s : Nat} {w : Nat × Int32 × Nat × Nat} {dz cv bv : Int32} (hn : n < 5) (hid : id < 2048) (hl : len ≤ 8) (hw : wn_wf len w) (ht : w.2.2.2 < 2 ^ 31) (hR : wn_R id len d w a17 a18 a19 a20 a21 a22 a24 a25 n) (hN : wn_N id len d s n a7 a8 a15 a16 a9) (hb : (dz ≠ 0 ∧ cv ≠ 0 ∧ bv = 1) ∨ (¬ (dz ≠ 0 ∧ cv ≠ 0) ∧ bv = 0))
    (H : ∀ (b17 b18 b19 b20 b21 b22 : Nat → Int32) (b23 : Nat → Int64) (b24 b25 : Nat → Int32), wn_O n a17 a18 a19 a20 a21 a22 a24 a25 b17 b18 b19 b20 b21 b22 b24 b25 → wn_R id len d (wn_nx id len d w) b17 b18 b19 b20 b21 b22 b24 b25 n → post bv (ph, lf, ck, sc, di, a1, a2, a3, a4, a5, a6, a7, a8, a9, a10, a11, a12, a13, a14, a15, a16, b17, b18, b19, b20, b21, b22, b23, b24, b25)) : wX_hear_70 post (nI n) (wn_lv id len d w) dz cv ph lf ck sc di a1 a2 a3 a4 a5 a6 a7 a8 a9 a10 a11 a12 a13 a14 a15 a16 a17 a18 a19 a20 a21 a22 a23 a24 a25 := by
  have e : (nI n).toNatClampNeg = n := nI_clamp (by omega)
  have iv : vp_in (nI n) 5 := vp_in_nI hn (by decide)
  have K := wn_h109 (post := post) (ph := ph) (lf := lf) (ck := ck) (sc := sc) (di := di) (a1 := a1) (a2 := a2) (a3 := a3) (a4 := a4) (a5 := a5) (a6 := a6) (a10 := a10) (a11 := a11) (a12 := a12) (a13 := a13) (a14 := a14) (a23 := a23) hn hid hl hw hR hb H
  unfold wX_hear_70
  rw [e, hR.2.2.2.2.2.2.2]
  refine ⟨iv, br_c (fun _ => wn_inTail hn hl hw.1 hR.1 hR.2.2.2.2.2.1 ?_) (fun _ => K)⟩
  by_cases e1 : w.1 = 34 + 8 * len
  · rw [if_pos e1]
    refine br_f (by decide) ⟨iv, pk_eq w.2.2.2 1 (fun g => ?_) (fun g => K)⟩
    have el : wn_lv id len d w = 0 := by
      unfold wn_lv
      rw [if_pos e1, if_pos g]
    refine br_f ?_ K
    rw [el]
    decide
  · rw [if_neg e1]
    exact br_t rfl K
theorem wn_h37 {post : Int32 → St2 → Prop} {ph lf ck sc di : Int32} {a1 a2 a3 a4 a5 a6 a7 a8 a10 a11 a12 a14 a15 a16 a17 a18 a19 a20 a21 a22 a24 a25 : Nat → Int32} {a9 a13 a23 : Nat → Int64} {id len d n s : Nat} {w : Nat × Int32 × Nat × Nat} {dz bv : Int32} (hn : n < 5) (hid : id < 2048) (hl : len ≤ 8) (hw : wn_wf len w) (ht : w.2.2.2 < 2 ^ 31) (hR : wn_R id len d w a17 a18 a19 a20 a21 a22 a24 a25 n) (hN : wn_N id len d s n a7 a8 a15 a16 a9) (hb : (dz ≠ 0 ∧ wn_ct len w ∧ bv = 1) ∨ (¬ (dz ≠ 0 ∧ wn_ct len w) ∧ bv = 0))
    (H : ∀ (b17 b18 b19 b20 b21 b22 : Nat → Int32) (b23 : Nat → Int64) (b24 b25 : Nat → Int32), wn_O n a17 a18 a19 a20 a21 a22 a24 a25 b17 b18 b19 b20 b21 b22 b24 b25 → wn_R id len d (wn_nx id len d w) b17 b18 b19 b20 b21 b22 b24 b25 n → post bv (ph, lf, ck, sc, di, a1, a2, a3, a4, a5, a6, a7, a8, a9, a10, a11, a12, a13, a14, a15, a16, b17, b18, b19, b20, b21, b22, b23, b24, b25)) : wX_hear_37 post (nI n) (wn_lv id len d w) dz ph lf ck sc di a1 a2 a3 a4 a5 a6 a7 a8 a9 a10 a11 a12 a13 a14 a15 a16 a17 a18 a19 a20 a21 a22 a23 a24 a25 := by
  have e : (nI n).toNatClampNeg = n := nI_clamp (by omega)
  have iv : vp_in (nI n) 5 := vp_in_nI hn (by decide)
  have K1 : wn_ct len w → wX_hear_65 post (nI n) (wn_lv id len d w) dz ph lf ck sc di a1 a2 a3 a4 a5 a6 a7 a8 a9 a10 a11 a12 a13 a14 a15 a16 a17 a18 a19 a20 a21 a22 a23 a24 a25 := by
    intro hc
    unfold wX_hear_65
    refine wn_h70 hn hid hl hw ht hR hN ?_ H
    rcases hb with ⟨z1, z2, z3⟩ | ⟨z1, z3⟩
    · exact Or.inl ⟨z1, by decide, z3⟩
    · exact Or.inr ⟨fun y => z1 ⟨y.1, hc⟩, z3⟩
  have K0 : ¬ wn_ct len w → wX_hear_69 post (nI n) (wn_lv id len d w) dz ph lf ck sc di a1 a2 a3 a4 a5 a6 a7 a8 a9 a10 a11 a12 a13 a14 a15 a16 a17 a18 a19 a20 a21 a22 a23 a24 a25 := by
    intro hc
    unfold wX_hear_69
    refine wn_h70 hn hid hl hw ht hR hN ?_ H
    rcases hb with ⟨z1, z2, z3⟩ | ⟨z1, z3⟩
    · exact absurd z2 hc
    · exact Or.inr ⟨fun y => y.2 rfl, z3⟩
  have hw1 := hw.1
  unfold wX_hear_37
  rw [e, hR.1, hR.2.2.2.2.2.2.2]
  refine ⟨iv, pk_lt w.1 12 (fun g => K0 (fun z => absurd z.1 (by omega))) (fun g => wn_inTail hn hl hw.1 hR.1 hR.2.2.2.2.2.1 ?_)⟩
  by_cases e1 : w.1 = 34 + 8 * len
  · rw [if_pos e1]
    exact br_f (by decide) ⟨iv, pk_eq w.2.2.2 0 (fun z => K1 ⟨g, fun _ => z⟩) (fun z => K0 (fun y => z (y.2 e1)))⟩
  · rw [if_neg e1]
    exact br_t rfl (K1 ⟨g, fun z => absurd z e1⟩)
theorem wn_hear {post : Int32 → St2 → Prop} {ph lf ck sc di : Int32} {a1 a2 a3 a4 a5 a6 a7 a8 a10 a11 a12 a14 a15 a16 a17 a18 a19 a20 a21 a22 a24 a25 : Nat → Int32} {a9 a13 a23 : Nat → Int64} {id len d n s : Nat} {w : Nat × Int32 × Nat × Nat} {dz bv : Int32} (hn : n < 5) (hid : id < 2048) (hl : len ≤ 8) (hd : d < 2 ^ 64) (hw : wn_wf len w) (ht : w.2.2.2 < 2 ^ 31) (hR : wn_R id len d w a17 a18 a19 a20 a21 a22 a24 a25 n) (hN : wn_N id len d s n a7 a8 a15 a16 a9) (hb : (dz ≠ 0 ∧ wn_ct len w ∧ bv = 1) ∨ (¬ (dz ≠ 0 ∧ wn_ct len w) ∧ bv = 0))
    (H : ∀ (b17 b18 b19 b20 b21 b22 : Nat → Int32) (b23 : Nat → Int64) (b24 b25 : Nat → Int32), wn_O n a17 a18 a19 a20 a21 a22 a24 a25 b17 b18 b19 b20 b21 b22 b24 b25 → wn_R id len d (wn_nx id len d w) b17 b18 b19 b20 b21 b22 b24 b25 n → post bv (ph, lf, ck, sc, di, a1, a2, a3, a4, a5, a6, a7, a8, a9, a10, a11, a12, a13, a14, a15, a16, b17, b18, b19, b20, b21, b22, b23, b24, b25)) : wpX_hear post (ph, lf, ck, sc, di, a1, a2, a3, a4, a5, a6, a7, a8, a9, a10, a11, a12, a13, a14, a15, a16, a17, a18, a19, a20, a21, a22, a23, a24, a25) (nI n) (wn_lv id len d w) dz := by
  have e : (nI n).toNatClampNeg = n := nI_clamp (by omega)
  have iv : vp_in (nI n) 5 := vp_in_nI hn (by decide)
  have K := wn_h37 (post := post) (ph := ph) (lf := lf) (ck := ck) (sc := sc) (di := di) (a1 := a1) (a2 := a2) (a3 := a3) (a4 := a4) (a5 := a5) (a6 := a6) (a10 := a10) (a11 := a11) (a12 := a12) (a13 := a13) (a14 := a14) (a23 := a23) hn hid hl hw ht hR hN hb H
  have hw1 := hw.1
  unfold wpX_hear
  dsimp only
  rw [e, hR.1]
  rcases hN with ⟨_, h15, h16, hC⟩ | ⟨_, h15⟩
  · rw [h15]
    refine ⟨iv, br_t rfl ⟨iv, pk_le 12 w.1 (fun _ => K) (fun g => wn_outS hn hid hl hd hw hR h15 h16 hC ?_)⟩⟩
    have eo : wn_oS id len d w = wn_lv id len d w := by
      unfold wn_oS
      rw [if_neg (by omega)]
    exact br_t eo K
  · rw [h15]
    exact ⟨iv, br_f (by decide) K⟩
end
section
/-! ===== one bit of a frame ===== -/
/-- the four places of an array -/
def wn_A (a : Nat → Int32) (f : Nat → Nat) : Prop := ∀ m, m < 4 → a m = nI (f m)
def wn_mx (i : Nat) (f g : Nat → Nat) : Nat → Nat := fun m => if m < i then f m else g m
theorem wn_A_0 {a : Nat → Int32} {f g : Nat → Nat} (h : wn_A a g) : wn_A a (wn_mx 0 f g) := fun m hm => by
  rw [h m hm]
  show _ = nI (if m < 0 then f m else g m)
  rw [if_neg (by omega)]
theorem wn_A_4 {a : Nat → Int32} {f g : Nat → Nat} (h : wn_A a (wn_mx 4 f g)) : wn_A a f := fun m hm => by
  rw [h m hm]
  show nI (if m < 4 then f m else g m) = _
  rw [if_pos hm]
theorem wn_A_at {a : Nat → Int32} {f g : Nat → Nat} {i : Nat} (h : wn_A a (wn_mx i f g)) (hi : i < 4) : a i = nI (g i) := by
  rw [h i hi]
  show nI (if i < i then f i else g i) = _
  rw [if_neg (by omega)]
theorem wn_A_up {a : Nat → Int32} {f g : Nat → Nat} {i : Nat} {v : Int32} (h : wn_A a (wn_mx i f g)) (hv : v = nI (f i)) : wn_A (upd a i v) (wn_mx (i + 1) f g) := fun m hm => by
  show _ = nI (if m < i + 1 then f m else g m)
  by_cases e : m = i
  · rw [e, pk_us, hv, if_pos (by omega)]
  · rw [pk_un e, h m hm]
    show nI (if m < i then f m else g m) = _
    by_cases e2 : m < i
    · rw [if_pos e2, if_pos (by omega)]
    · rw [if_neg e2, if_neg (by omega)]
theorem wn_A_kp {a : Nat → Int32} {f g : Nat → Nat} {i : Nat} (h : wn_A a (wn_mx i f g)) (hv : f i = g i) : wn_A a (wn_mx (i + 1) f g) := fun m hm => by
  show _ = nI (if m < i + 1 then f m else g m)
  rw [h m hm]
  show nI (if m < i then f m else g m) = _
  by_cases e : m = i
  · rw [e, if_neg (by omega), if_pos (by omega), hv]
  · by_cases e2 : m < i
    · rw [if_pos e2, if_pos (by omega)]
    · rw [if_neg e2, if_neg (by omega)]
theorem wn_A_c {a : Nat → Int32} {f g : Nat → Nat} (h : wn_A a f) (e : ∀ m, m < 4 → f m = g m) : wn_A a g := fun m hm => by rw [h m hm, e m hm]
/-- the level: all that is put out, together -/
def wn_fo (id len d s : Nat) (w : Nat × Int32 × Nat × Nat) : Nat → Int32
  | 0 => 1
  | n + 1 => wn_fo id len d s w n &&& (if n = s then wn_oS id len d w else wn_oR id len d w)
theorem wn_f1 : ∀ s, s < 4 → ((((1 : Int32) &&& (if 0 = s then 1 else 0)) &&& (if 1 = s then 1 else 0)) &&& (if 2 = s then 1 else 0)) &&& (if 3 = s then 1 else 0) = 0 := by decide +kernel
theorem wn_f2 : ∀ s, s < 4 → ((((1 : Int32) &&& (if 0 = s then 1 else 1)) &&& (if 1 = s then 1 else 1)) &&& (if 2 = s then 1 else 1)) &&& (if 3 = s then 1 else 1) = 1 := by decide +kernel
theorem wn_f3 : ∀ s, s < 4 → ((((1 : Int32) &&& (if 0 = s then 0 else 1)) &&& (if 1 = s then 0 else 1)) &&& (if 2 = s then 0 else 1)) &&& (if 3 = s then 0 else 1) = 0 := by decide +kernel
theorem wn_fo4 {id len d s : Nat} {w : Nat × Int32 × Nat × Nat} (hs : s < 4) (hw : wn_wf len w) : wn_fo id len d s w 4 = wn_lv id len d w := by
  show ((((1 : Int32) &&& (if 0 = s then wn_oS id len d w else wn_oR id len d w)) &&& (if 1 = s then wn_oS id len d w else wn_oR id len d w)) &&& (if 2 = s then wn_oS id len d w else wn_oR id len d w)) &&& (if 3 = s then wn_oS id len d w else wn_oR id len d w) = _
  unfold wn_oS wn_oR
  by_cases e : w.1 = 34 + 8 * len
  · rw [if_pos e, if_pos e]
    rcases wn_lv01 (id := id) (d := d) hw with z | z
    · rw [z]
      exact wn_f1 s hs
    · rw [z]
      exact wn_f2 s hs
  · rw [if_neg e, if_neg e]
    rcases wn_lv01 (id := id) (d := d) hw with z | z
    · rw [z]
      exact wn_f3 s hs
    · rw [z]
      exact wn_f2 s hs
theorem wn_fb4 {post : St2 → Prop} {ph lf ck sc di : Int32} {a1 a2 a3 a4 a5 a6 a7 a8 a10 a11 a12 a14 a15 a16 a17 a18 a19 a20 a21 a22 a24 a25 : Nat → Int32} {a9 a13 a23 : Nat → Int64} {id len d s : Nat} {w : Nat × Int32 × Nat × Nat} {dz : Int32} (hs : s < 4) (hid : id < 2048) (hl : len ≤ 8) (hd : d < 2 ^ 64) (hw : wn_wf len w) (ht : w.2.2.2 < 2 ^ 31) (hR : ∀ n, n < 4 → wn_R id len d w a17 a18 a19 a20 a21 a22 a24 a25 n) (hN : ∀ n, n < 4 → wn_N id len d s n a7 a8 a15 a16 a9) (H : ∃ fu, wX_frameBit_41 post dz (wn_lv id len d w) fu 0 0 ph lf ck sc di a1 a2 a3 a4 a5 a6 a7 a8 a9 a10 a11 a12 a13 a14 a15 a16 a17 a18 a19 a20 a21 a22 a23 a24 a25) : wpX_frameBit post (ph, lf, ck, sc, di, a1, a2, a3, a4, a5, a6, a7, a8, a9, a10, a11, a12, a13, a14, a15, a16, a17, a18, a19, a20, a21, a22, a23, a24, a25) dz := by
  unfold wpX_frameBit
  dsimp only
  refine pk_loop (fun n i x => wX_frameBit_4 post dz ph lf ck sc di a1 a2 a3 a4 a5 a6 a7 a8 a9 a10 a11 a12 a13 a14 a15 a16 a17 a18 a19 a20 a21 a22 a23 a24 a25 n x (nI i)) (fun i x => x = wn_fo id len d s w i) 4 0 1 (by omega) rfl ?_ ?_
  · intro n x hx
    rw [hx, wn_fo4 hs hw]
    exact pk_le 4 4 (fun _ => H) (fun z => absurd z (by omega))
  · intro n i x hi hx hk
    have e : (nI i).toNatClampNeg = i := nI_clamp (by omega)
    show wX_frameBit_4 post dz ph lf ck sc di a1 a2 a3 a4 a5 a6 a7 a8 a9 a10 a11 a12 a13 a14 a15 a16 a17 a18 a19 a20 a21 a22 a23 a24 a25 (n + 1) x (nI i)
    unfold wX_frameBit_4
    rw [e]
    refine pk_le 4 i (fun z => absurd z (by omega)) (fun _ => ⟨vp_in_nI (by omega) (by decide), ?_⟩)
    rcases hN i hi with ⟨hs', h15, h16, hC⟩ | ⟨hs', h15⟩
    · rw [h15]
      refine br_f (by decide) (wn_outS (by omega) hid hl hd hw (hR i hi) h15 h16 hC ?_)
      refine nm_e (nm_r (nI_1 i) (hk _ ?_))
      show _ = wn_fo id len d s w i &&& _
      rw [hx, if_pos hs']
    · rw [h15]
      refine br_f (by decide) (wn_outR (by omega) hl hw ht (hR i hi) h15 ?_)
      refine nm_e (nm_r (nI_1 i) (hk _ ?_))
      show _ = wn_fo id len d s w i &&& _
      rw [hx, if_neg hs']
/-- who hears: all four, one behind another -/
theorem wn_fb41 {post : St2 → Prop} {ph lf ck sc di : Int32} {a1 a2 a3 a4 a5 a6 a7 a8 a10 a11 a12 a14 a15 a16 a17 a18 a19 a20 a21 a22 a24 a25 : Nat → Int32} {a9 a13 a23 : Nat → Int64} {id len d s : Nat} {w : Nat × Int32 × Nat × Nat} {dz bv : Int32} (hs : s < 4) (hid : id < 2048) (hl : len ≤ 8) (hd : d < 2 ^ 64) (hw : wn_wf len w) (ht : w.2.2.2 < 2 ^ 31) (hR : ∀ n, n < 4 → wn_R id len d w a17 a18 a19 a20 a21 a22 a24 a25 n) (hN : ∀ n, n < 4 → wn_N id len d s n a7 a8 a15 a16 a9) (hb : (dz ≠ 0 ∧ wn_ct len w ∧ bv = 1) ∨ (¬ (dz ≠ 0 ∧ wn_ct len w) ∧ bv = 0))
    (H : ∀ n, ∀ (b17 b18 b19 b20 b21 b22 : Nat → Int32) (b23 : Nat → Int64) (b24 b25 : Nat → Int32), (∀ m, m < 4 → wn_R id len d (wn_nx id len d w) b17 b18 b19 b20 b21 b22 b24 b25 m) → wX_frameBit_41 post dz (wn_lv id len d w) (n + 1) bv 4 ph lf ck sc di a1 a2 a3 a4 a5 a6 a7 a8 a9 a10 a11 a12 a13 a14 a15 a16 b17 b18 b19 b20 b21 b22 b23 b24 b25) : ∃ fu, wX_frameBit_41 post dz (wn_lv id len d w) fu 0 0 ph lf ck sc di a1 a2 a3 a4 a5 a6 a7 a8 a9 a10 a11 a12 a13 a14 a15 a16 a17 a18 a19 a20 a21 a22 a23 a24 a25 := by
  refine pk_loop (σ := Int32 × (Nat → Int32) × (Nat → Int32) × (Nat → Int32) × (Nat → Int32) × (Nat → Int32) × (Nat → Int32) × (Nat → Int64) × (Nat → Int32) × (Nat → Int32))
    (fun n i x => wX_frameBit_41 post dz (wn_lv id len d w) n x.1 (nI i) ph lf ck sc di a1 a2 a3 a4 a5 a6 a7 a8 a9 a10 a11 a12 a13 a14 a15 a16 x.2.1 x.2.2.1 x.2.2.2.1 x.2.2.2.2.1 x.2.2.2.2.2.1 x.2.2.2.2.2.2.1 x.2.2.2.2.2.2.2.1 x.2.2.2.2.2.2.2.2.1 x.2.2.2.2.2.2.2.2.2)
    (fun i x => (i = 0 → x.1 = 0) ∧ (i ≠ 0 → x.1 = bv) ∧ (∀ m, m < 4 → m < i → wn_R id len d (wn_nx id len d w) x.2.1 x.2.2.1 x.2.2.2.1 x.2.2.2.2.1 x.2.2.2.2.2.1 x.2.2.2.2.2.2.1 x.2.2.2.2.2.2.2.2.1 x.2.2.2.2.2.2.2.2.2 m) ∧ (∀ m, m < 4 → i ≤ m → wn_R id len d w x.2.1 x.2.2.1 x.2.2.2.1 x.2.2.2.2.1 x.2.2.2.2.2.1 x.2.2.2.2.2.2.1 x.2.2.2.2.2.2.2.2.1 x.2.2.2.2.2.2.2.2.2 m))
    4 0 (0, a17, a18, a19, a20, a21, a22, a23, a24, a25) (by omega) ⟨fun _ => rfl, fun z => absurd rfl z, fun m _ z => absurd z (by omega), fun m hm _ => hR m hm⟩ ?_ ?_
  · intro n ⟨x3, b17, b18, b19, b20, b21, b22, b23, b24, b25⟩ ⟨j1, j2, j3, j4⟩
    dsimp only at j1 j2 j3 j4
    have e3 : x3 = bv := j2 (by omega)
    subst e3
    exact H n b17 b18 b19 b20 b21 b22 b23 b24 b25 (fun m hm => j3 m hm hm)
  · intro n i ⟨x3, b17, b18, b19, b20, b21, b22, b23, b24, b25⟩ hi ⟨j1, j2, j3, j4⟩ hk
    dsimp only at j1 j2 j3 j4
    have e : (nI i).toNatClampNeg = i := nI_clamp (by omega)
    show wX_frameBit_41 post dz (wn_lv id len d w) (n + 1) x3 (nI i) ph lf ck sc di a1 a2 a3 a4 a5 a6 a7 a8 a9 a10 a11 a12 a13 a14 a15 a16 b17 b18 b19 b20 b21 b22 b23 b24 b25
    unfold wX_frameBit_41
    rw [e]
    have h15 : ¬ a15 i = 0 := by
      rcases hN i hi with ⟨_, h15, _⟩ | ⟨_, h15⟩
      · rw [h15]; decide
      · rw [h15]; decide
    refine pk_le 4 i (fun z => absurd z (by omega)) (fun _ => ⟨vp_in_nI (by omega) (by decide), br_f h15 (wn_hear (by omega) hid hl hd hw ht (j4 i hi (Nat.le_refl i)) (hN i hi) hb ?_)⟩)
    intro c17 c18 c19 c20 c21 c22 c23 c24 c25 hO hR'
    have J3 : ∀ m, m < 4 → m < i + 1 → wn_R id len d (wn_nx id len d w) c17 c18 c19 c20 c21 c22 c24 c25 m := by
      intro m hm hmi
      by_cases em : m = i
      · rw [em]; exact hR'
      · exact wn_RO hO em (j3 m hm (by omega))
    have J4 : ∀ m, m < 4 → i + 1 ≤ m → wn_R id len d w c17 c18 c19 c20 c21 c22 c24 c25 m := fun m hm hmi => wn_RO hO (by omega) (j4 m hm (by omega))
    dsimp only
    rcases hb with ⟨_, _, z3⟩ | ⟨_, z3⟩
    · refine br_f (by rw [z3]; decide) (nm_r (nI_1 i) ?_)
      exact hk (1, c17, c18, c19, c20, c21, c22, c23, c24, c25) ⟨fun z => absurd z (by omega), fun _ => z3.symm, J3, J4⟩
    · have ex : x3 = 0 := by
        by_cases ei : i = 0
        · exact j1 ei
        · rw [j2 ei, z3]
      refine br_t z3 (br_t ex (nm_r (nI_1 i) ?_))
      exact hk (0, c17, c18, c19, c20, c21, c22, c23, c24, c25) ⟨fun _ => rfl, fun _ => z3.symm, J3, J4⟩
/-! ===== breaking off ===== -/
theorem wn_nb0 : vp_nar .boolean 0 = 0 := by decide
theorem wn_nb1 : vp_nar .boolean 1 = 1 := by decide
theorem wn_breakOff {post : St2 → Prop} {ph lf ck sc di : Int32} {a1 a2 a3 a4 a5 a6 a7 a8 a10 a11 a12 a14 a15 a16 a17 a18 a19 a20 a21 a22 a24 a25 : Nat → Int32} {a9 a13 a23 : Nat → Int64} {s : Nat} {on sd rc : Nat → Nat} (hs : s < 4) (h1 : wn_A a1 on) (h2 : wn_A a2 sd) (h3 : wn_A a3 rc) (hr : ∀ n, n < 4 → (n = s ∧ a15 n = 1) ∨ (n ≠ s ∧ a15 n = 2)) (hsd : sd s ≤ 255) (hrc : ∀ n, n < 4 → rc n < 255)
    (H : ∀ b1 b2 b3 b15 : Nat → Int32, wn_A b1 (fun n => if n = s then (if sd n + 8 ≤ 255 then 1 else 0) else on n) → wn_A b2 (fun n => if n = s then sd n + 8 else sd n) → wn_A b3 (fun n => if n = s then rc n else rc n + 1) → post (2, 14, ck, sc, di, b1, b2, b3, a4, a5, a6, a7, a8, a9, a10, a11, a12, a13, a14, b15, a16, a17, a18, a19, a20, a21, a22, a23, a24, a25)) : wpX_breakOff post (ph, lf, ck, sc, di, a1, a2, a3, a4, a5, a6, a7, a8, a9, a10, a11, a12, a13, a14, a15, a16, a17, a18, a19, a20, a21, a22, a23, a24, a25) := by
  unfold wpX_breakOff
  dsimp only
  refine pk_loop (σ := (Nat → Int32) × (Nat → Int32) × (Nat → Int32) × (Nat → Int32))
    (fun n i x => wX_breakOff_2 post ph lf ck sc di n (nI i) x.1 x.2.1 x.2.2.1 a4 a5 a6 a7 a8 a9 a10 a11 a12 a13 a14 x.2.2.2 a16 a17 a18 a19 a20 a21 a22 a23 a24 a25)
    (fun i x => wn_A x.1 (wn_mx i (fun n => if n = s then (if sd n + 8 ≤ 255 then 1 else 0) else on n) on) ∧ wn_A x.2.1 (wn_mx i (fun n => if n = s then sd n + 8 else sd n) sd) ∧ wn_A x.2.2.1 (wn_mx i (fun n => if n = s then rc n else rc n + 1) rc) ∧ (∀ m, m < 4 → i ≤ m → x.2.2.2 m = a15 m))
    4 0 (a1, a2, a3, a15) (by omega) ⟨wn_A_0 h1, wn_A_0 h2, wn_A_0 h3, fun _ _ _ => rfl⟩ ?_ ?_
  · intro n ⟨b1, b2, b3, b15⟩ ⟨j1, j2, j3, j4⟩
    exact pk_le 4 4 (fun _ => H b1 b2 b3 b15 (wn_A_4 j1) (wn_A_4 j2) (wn_A_4 j3)) (fun z => absurd z (by omega))
  · intro n i ⟨b1, b2, b3, b15⟩ hi ⟨j1, j2, j3, j4⟩ hk
    dsimp only at j1 j2 j3 j4
    have e : (nI i).toNatClampNeg = i := nI_clamp (by omega)
    have iv : vp_in (nI i) 5 := vp_in_nI (by omega) (by decide)
    have iw : vp_in (nI i) 4 := vp_in_nI hi (by decide)
    show wX_breakOff_2 post ph lf ck sc di (n + 1) (nI i) b1 b2 b3 a4 a5 a6 a7 a8 a9 a10 a11 a12 a13 a14 b15 a16 a17 a18 a19 a20 a21 a22 a23 a24 a25
    unfold wX_breakOff_2
    rw [e, j4 i hi (Nat.le_refl i), wn_A_at j2 hi, wn_A_at j3 hi]
    refine pk_le 4 i (fun z => absurd z (by omega)) (fun _ => ⟨iv, ?_⟩)
    have J4 : ∀ m, m < 4 → i + 1 ≤ m → upd b15 i 0 m = a15 m := fun m hm hmi => by rw [pk_un (by omega)]; exact j4 m hm (by omega)
    rcases hr i hi with ⟨es, h15⟩ | ⟨es, h15⟩
    · rw [h15]
      refine br_t rfl ⟨iw, iw, nm_e ⟨iw, ?_⟩⟩
      rw [pk_us]
      have hsi : sd i ≤ 255 := by rw [es]; exact hsd
      have J2 : wn_A (upd b2 i (nI (sd i) + 8)) (wn_mx (i + 1) (fun n => if n = s then sd n + 8 else sd n) sd) := wn_A_up j2 (by rw [if_pos es]; exact nI_add _ 8)
      have J3 : wn_A b3 (wn_mx (i + 1) (fun n => if n = s then rc n else rc n + 1) rc) := wn_A_kp j3 (by rw [if_pos es])
      refine pk_lt 255 (sd i + 8) (fun g => ?_) (fun g => ?_) rfl (nI_add _ 8)
      · unfold wX_breakOff_50
        rw [e, wn_nb0]
        refine ⟨iw, nm_e ⟨iv, nm_e (nm_r (nI_1 i) ?_)⟩⟩
        exact hk (upd b1 i 0, upd b2 i (nI (sd i) + 8), b3, upd b15 i 0) ⟨wn_A_up j1 (by rw [if_pos es, if_neg (by omega)]; rfl), J2, J3, J4⟩
      · unfold wX_breakOff_50
        rw [e, wn_nb1]
        refine ⟨iw, nm_e ⟨iv, nm_e (nm_r (nI_1 i) ?_)⟩⟩
        exact hk (upd b1 i 1, upd b2 i (nI (sd i) + 8), b3, upd b15 i 0) ⟨wn_A_up j1 (by rw [if_pos es, if_pos (by omega)]; rfl), J2, J3, J4⟩
    · rw [h15]
      have hri := hrc i hi
      refine br_f (by decide) ⟨iv, br_t rfl ⟨iw, pk_le 255 (rc i) (fun z => absurd z (by omega)) (fun _ => ⟨iw, iw, nm_e ⟨iv, nm_e (nm_r (nI_1 i) ?_)⟩⟩)⟩⟩
      exact hk (b1, b2, upd b3 i (nI (rc i) + 1), upd b15 i 0) ⟨wn_A_kp j1 (by rw [if_neg es]), wn_A_kp j2 (by rw [if_neg es]), wn_A_up j3 (by rw [if_neg es]; exact nI_1 _), J4⟩
/-! ===== finishing ===== -/
theorem wn_fin4 {post : St2 → Prop} {ph lf ck sc di : Int32} {a1 a2 a3 a4 a5 a6 a7 a8 a10 a11 a12 a14 a15 a16 a17 a18 a19 a20 a21 a22 a24 a25 : Nat → Int32} {a9 a13 a23 : Nat → Int64} {s t : Nat} (hs : s < 4) (hr : ∀ n, n < 4 → (n = s ∧ a15 n = 1) ∨ (n ≠ s ∧ a15 n = 2)) (h25 : a25 s = nI t) (ht : t < 2 ^ 31) (H0 : t ≠ 10 → post (ph, lf, ck, sc, di, a1, a2, a3, a4, a5, a6, a7, a8, a9, a10, a11, a12, a13, a14, a15, a16, a17, a18, a19, a20, a21, a22, a23, a24, a25)) (H1 : t = 10 → ∃ fu, wX_finishIfSent_53 post fu 0 ph lf ck sc di a1 a2 a3 a4 a5 a6 a7 a8 a9 a10 a11 a12 a13 a14 a15 a16 a17 a18 a19 a20 a21 a22 a23 a24 a25) : wpX_finishIfSent post (ph, lf, ck, sc, di, a1, a2, a3, a4, a5, a6, a7, a8, a9, a10, a11, a12, a13, a14, a15, a16, a17, a18, a19, a20, a21, a22, a23, a24, a25) := by
  unfold wpX_finishIfSent
  dsimp only
  refine pk_loop (fun n i x => wX_finishIfSent_4 post ph lf ck sc di a1 a2 a3 a4 a5 a6 a7 a8 a9 a10 a11 a12 a13 a14 a15 a16 a17 a18 a19 a20 a21 a22 a23 a24 a25 n x (nI i)) (fun i x => x = if s < i ∧ t = 10 then 1 else 0) 4 0 0 (by omega) (by rw [if_neg (fun z => absurd z.1 (by omega))]) ?_ ?_
  · intro n x hx
    refine pk_le 4 4 (fun _ => ?_) (fun z => absurd z (by omega))
    by_cases e : t = 10
    · rw [if_pos ⟨hs, e⟩] at hx
      rw [hx]
      exact br_f (by decide) (H1 e)
    · rw [if_neg (fun z => e z.2)] at hx
      rw [hx]
      exact br_t rfl (H0 e)
  · intro n i x hi hx hk
    have e : (nI i).toNatClampNeg = i := nI_clamp (by omega)
    have iv : vp_in (nI i) 5 := vp_in_nI (by omega) (by decide)
    show wX_finishIfSent_4 post ph lf ck sc di a1 a2 a3 a4 a5 a6 a7 a8 a9 a10 a11 a12 a13 a14 a15 a16 a17 a18 a19 a20 a21 a22 a23 a24 a25 (n + 1) x (nI i)
    unfold wX_finishIfSent_4
    rw [e]
    refine pk_le 4 i (fun z => absurd z (by omega)) (fun _ => br_c (fun ex => ⟨iv, ?_⟩) (fun ex => nm_r (nI_1 i) (hk _ ?_)))
    · rcases hr i hi with ⟨es, h15⟩ | ⟨es, h15⟩
      · rw [h15, es, h25, ← es]
        refine br_t rfl ⟨iv, pk_eq t 10 (fun g => nm_r (nI_1 i) (hk _ ?_)) (fun g => nm_r (nI_1 i) (hk _ ?_))⟩
        · rw [if_pos ⟨by omega, g⟩]
        · rw [if_neg (fun z => g z.2)]
      · rw [h15]
        refine br_f (by decide) (nm_r (nI_1 i) (hk _ ?_))
        by_cases g : s < i ∧ t = 10
        · rw [if_pos g] at hx
          rw [hx] at ex
          exact absurd ex (by decide)
        · rw [if_neg (fun z => g ⟨by omega, z.2⟩)]
    · by_cases g : s < i ∧ t = 10
      · rw [if_pos ⟨by omega, g.2⟩]
      · rw [if_neg g] at hx
        exact absurd hx ex
theorem wn_remove {post : St2 → Prop} {ph lf ck sc di : Int32} {a1 a2 a3 a4 a5 a6 a7 a8 a10 a11 a12 a14 a15 a16 a17 a18 a19 a20 a21 a22 a24 a25 : Nat → Int32} {a9 a13 a23 : Nat → Int64} {n : Nat} (hn : n < 4) (h6 : a6 n = 1) (H : ∀ b16 : Nat → Int32, post (ph, lf, ck, sc, di, a1, a2, a3, a4, a5, (upd a6 n 0), a7, a8, a9, a10, a11, a12, a13, a14, a15, b16, a17, a18, a19, a20, a21, a22, a23, a24, a25)) : wpX_removeFrame post (ph, lf, ck, sc, di, a1, a2, a3, a4, a5, a6, a7, a8, a9, a10, a11, a12, a13, a14, a15, a16, a17, a18, a19, a20, a21, a22, a23, a24, a25) (nI n) 0 := by
  have e : (nI n).toNatClampNeg = n := nI_clamp (by omega)
  have iv : vp_in (nI n) 5 := vp_in_nI (by omega) (by decide)
  unfold wpX_removeFrame
  dsimp only
  rw [e, h6]
  refine ⟨iv, iv, nm_r (show upd a6 n (1 - 1) = upd a6 n 0 from rfl) ⟨1, ?_⟩⟩
  unfold wX_removeFrame_12
  rw [e, pk_us]
  exact ⟨iv, br_t (by decide) ⟨iv, iv, br_c (fun _ => ⟨iv, nm_e (H _)⟩) (fun _ => ⟨iv, nm_e (H _)⟩)⟩⟩
/-- the filters: one node (or none) hears what has the wrong id -/
def wn_Fl (id fr : Nat) (a4 a5 : Nat → Int32) : Prop := ∀ n, n < 4 → (n ≠ fr → a4 n = 0) ∧ (n = fr → a4 n = 2047 ∧ a5 n = nI (id ^^^ 1))
theorem wn_x1 (id : Nat) : id ^^^ (id ^^^ 1) = 1 := by rw [← Nat.xor_assoc, Nat.xor_self, Nat.zero_xor]
theorem wn_deliver {post : St2 → Prop} {ph lf ck sc di : Int32} {a1 a2 a3 a4 a5 a6 a7 a8 a10 a11 a12 a14 a15 a16 a17 a18 a19 a20 a21 a22 a24 a25 : Nat → Int32} {a9 a13 a23 : Nat → Int64} {n c id fr : Nat} (hn : n < 4) (h10 : a10 n = nI c) (hc : c < 6) (hck : a24 n = a20 n) (h21 : a21 n = nI id) (hF : wn_Fl id fr a4 a5)
    (H : ∀ (b10 b11 b12 : Nat → Int32) (b13 : Nat → Int64), (n = fr → b10 = a10) → (n ≠ fr → b10 = upd a10 n (nI (c + 1))) → post (ph, lf, ck, sc, di, a1, a2, a3, a4, a5, a6, a7, a8, a9, b10, b11, b12, b13, a14, a15, a16, a17, a18, a19, a20, a21, a22, a23, a24, a25)) : wpX_deliver post (ph, lf, ck, sc, di, a1, a2, a3, a4, a5, a6, a7, a8, a9, a10, a11, a12, a13, a14, a15, a16, a17, a18, a19, a20, a21, a22, a23, a24, a25) (nI n) := by
  have e : (nI n).toNatClampNeg = n := nI_clamp (by omega)
  have iv : vp_in (nI n) 5 := vp_in_nI (by omega) (by decide)
  have iw : vp_in (nI n) 4 := vp_in_nI hn (by decide)
  unfold wpX_deliver
  dsimp only
  rw [e, h21, h10]
  refine ⟨iv, iw, iw, ?_⟩
  by_cases ef : n = fr
  · obtain ⟨f4, f5⟩ := (hF n hn).2 ef
    rw [f4, f5, nx_xor, wn_x1]
    exact br_f (by decide) (H a10 a11 a12 a13 (fun _ => rfl) (fun z => absurd ef z))
  · rw [(hF n hn).1 ef]
    refine br_t (Int32.and_zero) ⟨iv, iv, br_t hck ⟨iw, pk_eq c 6 (fun z => absurd z (by omega)) (fun _ => ⟨iw, ?_⟩)⟩⟩
    have ea : (6 : Int32) * nI n + nI c = nI (6 * n + c) := by
      show nI 6 * nI n + nI c = _
      rw [pk_mul, nI_add]
    have ix : vp_in (nI (6 * n + c)) 24 := vp_in_nI (by omega) (by decide)
    rw [ea]
    refine nm_e ⟨iv, ix, nm_e ⟨iv, ix, nm_e ⟨iv, ix, nm_e ⟨iw, iw, nm_r (by rw [nI_1]) (H _ _ _ _ (fun z => absurd z ef) (fun _ => rfl))⟩⟩⟩⟩
theorem wn_fin53 {post : St2 → Prop} {ph lf ck sc di : Int32} {a1 a2 a3 a4 a5 a6 a7 a8 a10 a11 a12 a14 a15 a16 a17 a18 a19 a20 a21 a22 a24 a25 : Nat → Int32} {a9 a13 a23 : Nat → Int64} {id s fr : Nat} {sd rc ic : Nat → Nat} (hs : s < 4) (h2 : wn_A a2 sd) (h3 : wn_A a3 rc) (h6 : wn_A a6 (fun n => if n = s then 1 else 0)) (h10 : wn_A a10 ic) (hr : ∀ n, n < 4 → (n = s ∧ a15 n = 1) ∨ (n ≠ s ∧ a15 n = 2)) (h16 : a16 s = 0)
    (hF : wn_Fl id fr a4 a5) (hck : ∀ n, n < 4 → a24 n = a20 n) (h21 : ∀ n, n < 4 → a21 n = nI id) (hsd : ∀ n, n < 4 → sd n < 1000) (hrc : ∀ n, n < 4 → rc n < 1000) (hic : ∀ n, n < 4 → ic n < 6)
    (H : ∀ (b2 b3 b6 b10 b11 b12 : Nat → Int32) (b13 : Nat → Int64) (b15 b16 : Nat → Int32), wn_A b2 (fun n => if n = s then sd n - 1 else sd n) → wn_A b3 (fun n => if n = s then rc n else rc n - 1) → wn_A b6 (fun _ => 0) → wn_A b10 (fun n => if n = s ∨ n = fr then ic n else ic n + 1) → post (3, 3, ck, (sc + 1), di, a1, b2, b3, a4, a5, b6, a7, a8, a9, b10, b11, b12, b13, a14, b15, b16, a17, a18, a19, a20, a21, a22, a23, a24, a25)) : ∃ fu, wX_finishIfSent_53 post fu 0 ph lf ck sc di a1 a2 a3 a4 a5 a6 a7 a8 a9 a10 a11 a12 a13 a14 a15 a16 a17 a18 a19 a20 a21 a22 a23 a24 a25 := by
  refine pk_loop (σ := (Nat → Int32) × (Nat → Int32) × (Nat → Int32) × (Nat → Int32) × (Nat → Int32) × (Nat → Int32) × (Nat → Int64) × (Nat → Int32) × (Nat → Int32))
    (fun n i x => wX_finishIfSent_53 post n (nI i) ph lf ck sc di a1 x.1 x.2.1 a4 a5 x.2.2.1 a7 a8 a9 x.2.2.2.1 x.2.2.2.2.1 x.2.2.2.2.2.1 x.2.2.2.2.2.2.1 a14 x.2.2.2.2.2.2.2.1 x.2.2.2.2.2.2.2.2 a17 a18 a19 a20 a21 a22 a23 a24 a25)
    (fun i x => wn_A x.1 (wn_mx i (fun n => if n = s then sd n - 1 else sd n) sd) ∧ wn_A x.2.1 (wn_mx i (fun n => if n = s then rc n else rc n - 1) rc) ∧ wn_A x.2.2.1 (wn_mx i (fun _ => 0) (fun n => if n = s then 1 else 0)) ∧ wn_A x.2.2.2.1 (wn_mx i (fun n => if n = s ∨ n = fr then ic n else ic n + 1) ic) ∧ (∀ m, m < 4 → i ≤ m → x.2.2.2.2.2.2.2.1 m = a15 m) ∧ (i ≤ s → x.2.2.2.2.2.2.2.2 = a16))
    4 0 (a2, a3, a6, a10, a11, a12, a13, a15, a16) (by omega) ⟨wn_A_0 h2, wn_A_0 h3, wn_A_0 h6, wn_A_0 h10, fun _ _ _ => rfl, fun _ => rfl⟩ ?_ ?_
  · intro n ⟨b2, b3, b6, b10, b11, b12, b13, b15, b16⟩ ⟨j1, j2, j3, j4, j5, j6⟩
    exact pk_le 4 4 (fun _ => nm_e (H b2 b3 b6 b10 b11 b12 b13 b15 b16 (wn_A_4 j1) (wn_A_4 j2) (wn_A_4 j3) (wn_A_4 j4))) (fun z => absurd z (by omega))
  · intro n i ⟨b2, b3, b6, b10, b11, b12, b13, b15, b16⟩ hi ⟨j1, j2, j3, j4, j5, j6⟩ hk
    dsimp only at j1 j2 j3 j4 j5 j6
    have e : (nI i).toNatClampNeg = i := nI_clamp (by omega)
    have iv : vp_in (nI i) 5 := vp_in_nI (by omega) (by decide)
    have iw : vp_in (nI i) 4 := vp_in_nI hi (by decide)
    have hsi := hsd i hi
    have hri := hrc i hi
    show wX_finishIfSent_53 post (n + 1) (nI i) ph lf ck sc di a1 b2 b3 a4 a5 b6 a7 a8 a9 b10 b11 b12 b13 a14 b15 b16 a17 a18 a19 a20 a21 a22 a23 a24 a25
    unfold wX_finishIfSent_53
    rw [e, j5 i hi (Nat.le_refl i)]
    refine pk_le 4 i (fun z => absurd z (by omega)) (fun _ => ⟨iv, ?_⟩)
    have J5 : ∀ m, m < 4 → i + 1 ≤ m → upd b15 i 0 m = a15 m := fun m hm hmi => by rw [pk_un (by omega)]; exact j5 m hm (by omega)
    rcases hr i hi with ⟨es, h15⟩ | ⟨es, h15⟩
    · have e16 : b16 i = 0 := by rw [j6 (by omega), es]; exact h16
      have e6 : b6 i = 1 := by rw [wn_A_at j3 hi, if_pos es]; rfl
      rw [h15, e16]
      refine br_t rfl ⟨iv, wn_remove hi e6 (fun c16 => ?_)⟩
      dsimp only
      rw [wn_A_at j1 hi]
      have J3 : wn_A (upd b6 i 0) (wn_mx (i + 1) (fun _ => 0) (fun n => if n = s then 1 else 0)) := wn_A_up j3 rfl
      have J2 : wn_A b3 (wn_mx (i + 1) (fun n => if n = s then rc n else rc n - 1) rc) := wn_A_kp j2 (by rw [if_pos es])
      have J4 : wn_A b10 (wn_mx (i + 1) (fun n => if n = s ∨ n = fr then ic n else ic n + 1) ic) := wn_A_kp j4 (by rw [if_pos (Or.inl es)])
      refine ⟨iw, iw, pk_le (sd i) 0 (fun g => ?_) (fun g => ?_)⟩
      · unfold wX_finishIfSent_100
        rw [e]
        refine ⟨iw, nm_e ⟨iv, nm_e (nm_r (nI_1 i) ?_)⟩⟩
        exact hk (upd b2 i (nI (sd i) - 0), b3, upd b6 i 0, b10, b11, b12, b13, upd b15 i 0, c16) ⟨wn_A_up j1 (by rw [if_pos es]; rw [show sd i - 1 = sd i - 0 by omega]; exact pk_sub (b := 0) (by omega)), J2, J3, J4, J5, fun z => absurd z (by omega)⟩
      · unfold wX_finishIfSent_100
        rw [e]
        refine ⟨iw, nm_e ⟨iv, nm_e (nm_r (nI_1 i) ?_)⟩⟩
        exact hk (upd b2 i (nI (sd i) - 1), b3, upd b6 i 0, b10, b11, b12, b13, upd b15 i 0, c16) ⟨wn_A_up j1 (by rw [if_pos es]; exact pk_sub (b := 1) (by omega)), J2, J3, J4, J5, fun z => absurd z (by omega)⟩
    · rw [h15]
      refine br_f (by decide) ⟨iv, br_t rfl (wn_deliver (fr := fr) hi (wn_A_at j4 hi) (hic i hi) (hck i hi) (h21 i hi) hF ?_)⟩
      intro c10 c11 c12 c13 k1 k2
      dsimp only
      rw [wn_A_at j2 hi]
      have J4 : wn_A c10 (wn_mx (i + 1) (fun n => if n = s ∨ n = fr then ic n else ic n + 1) ic) := by
        by_cases ef : i = fr
        · rw [k1 ef]
          exact wn_A_kp j4 (by rw [if_pos (Or.inr ef)])
        · rw [k2 ef]
          exact wn_A_up j4 (by rw [if_neg (fun z => z.elim es ef)])
      have J1 : wn_A b2 (wn_mx (i + 1) (fun n => if n = s then sd n - 1 else sd n) sd) := wn_A_kp j1 (by rw [if_neg es])
      have J3 : wn_A b6 (wn_mx (i + 1) (fun _ => 0) (fun n => if n = s then 1 else 0)) := wn_A_kp j3 (by rw [if_neg es])
      refine ⟨iw, iw, pk_le (rc i) 0 (fun g => ?_) (fun g => ?_)⟩
      · unfold wX_finishIfSent_141
        rw [e]
        refine ⟨iw, nm_e ⟨iv, nm_e (nm_r (nI_1 i) ?_)⟩⟩
        exact hk (b2, upd b3 i (nI (rc i) - 0), b6, c10, c11, c12, c13, upd b15 i 0, b16) ⟨J1, wn_A_up j2 (by rw [if_neg es, show rc i - 1 = rc i - 0 by omega]; exact pk_sub (b := 0) (by omega)), J3, J4, J5, fun z => j6 (by omega)⟩
      · unfold wX_finishIfSent_141
        rw [e]
        refine ⟨iw, nm_e ⟨iv, nm_e (nm_r (nI_1 i) ?_)⟩⟩
        exact hk (b2, upd b3 i (nI (rc i) - 1), b6, c10, c11, c12, c13, upd b15 i 0, b16) ⟨J1, wn_A_up j2 (by rw [if_neg es]; exact pk_sub (b := 1) (by omega)), J3, J4, J5, fun z => j6 (by omega)⟩
end
section
/-! ===== one turn of run ===== -/
theorem wn_Ag {a : Nat → Int32} {f : Nat → Nat} (h : wn_A a f) (m : Nat) (hm : m < 4) : a m = nI (f m) := h m hm
theorem wn_bl {post : St2 → Prop} {ph lf ck sc di : Int32} {a1 a2 a3 a4 a5 a6 a7 a8 a10 a11 a12 a14 a15 a16 a17 a18 a19 a20 a21 a22 a24 a25 : Nat → Int32} {a9 a13 a23 : Nat → Int64} {id len d n : Nat} (hn : n < 5) (hid : id < 2048) (hl : len ≤ 8) (H : ∀ (b17 b18 b19 b20 b21 b22 : Nat → Int32) (b23 : Nat → Int64) (b24 b25 : Nat → Int32), wn_O n a17 a18 a19 a20 a21 a22 a24 a25 b17 b18 b19 b20 b21 b22 b24 b25 → wn_R id len d (wn_W id len d 0) b17 b18 b19 b20 b21 b22 b24 b25 n → post (ph, lf, ck, sc, di, a1, a2, a3, a4, a5, a6, a7, a8, a9, a10, a11, a12, a13, a14, a15, a16, b17, b18, b19, b20, b21, b22, b23, b24, b25)) : wpX_beginListening post (ph, lf, ck, sc, di, a1, a2, a3, a4, a5, a6, a7, a8, a9, a10, a11, a12, a13, a14, a15, a16, a17, a18, a19, a20, a21, a22, a23, a24, a25) (nI n) := by
  have e : (nI n).toNatClampNeg = n := nI_clamp (by omega)
  have iv : vp_in (nI n) 5 := vp_in_nI hn (by decide)
  unfold wpX_beginListening
  dsimp only
  rw [e]
  refine ⟨iv, nm_e ⟨iv, nm_e ⟨iv, nm_e ⟨iv, nm_e ⟨iv, nm_e ⟨iv, nm_e ⟨iv, nm_e ⟨iv, nm_e ⟨iv, nm_e (H _ _ _ _ _ _ _ _ _ (fun k hk => ⟨pk_un hk, pk_un hk, pk_un hk, pk_un hk, pk_un hk, pk_un hk, pk_un hk, pk_un hk⟩) ⟨pk_us, pk_us, pk_us, pk_us, ?_, ?_, ?_, pk_us⟩)⟩⟩⟩⟩⟩⟩⟩⟩⟩
  · rw [pk_us]
    show _ = nI (id / 2 ^ 12)
    rw [Nat.div_eq_of_lt (by omega)]
    rfl
  · rw [pk_us]
    show _ = nI (wn_hL len 0)
    rw [wn_hL_z hl (by omega)]
    rfl
  · rw [pk_us]
    show _ = nI (wn_hC id len d 0)
    rw [wn_hC_z (by omega)]
    rfl
theorem wn_choose {post : Int32 → Prop} {ph lf ck sc di : Int32} {a1 a2 a3 a4 a5 a6 a7 a8 a10 a11 a12 a14 a15 a16 a17 a18 a19 a20 a21 a22 a24 a25 : Nat → Int32} {a9 a13 a23 : Nat → Int64} {n c : Nat} (hn : n < 5) (h6 : a6 n = nI c) (hc : c ≤ 1) (H : post 0) : wpX_choose post (ph, lf, ck, sc, di, a1, a2, a3, a4, a5, a6, a7, a8, a9, a10, a11, a12, a13, a14, a15, a16, a17, a18, a19, a20, a21, a22, a23, a24, a25) (nI n) := by
  have e : (nI n).toNatClampNeg = n := nI_clamp (by omega)
  have iv : vp_in (nI n) 5 := vp_in_nI hn (by decide)
  unfold wpX_choose
  dsimp only
  refine ⟨1, ?_⟩
  unfold wX_choose_4
  rw [e, h6]
  exact ⟨iv, pk_le c 1 (fun _ => H) (fun z => absurd z (by omega))⟩
theorem wn_any1 {post : Int32 → Prop} {ph lf ck sc di : Int32} {a1 a2 a3 a4 a5 a6 a7 a8 a10 a11 a12 a14 a15 a16 a17 a18 a19 a20 a21 a22 a24 a25 : Nat → Int32} {a9 a13 a23 : Nat → Int64} {s : Nat} (hs : s < 4) (h1 : ∀ n, n < 4 → a1 n = 1) (h6 : wn_A a6 (fun n => if n = s then 1 else 0)) (H : post 1) : wpX_anyWaits post (ph, lf, ck, sc, di, a1, a2, a3, a4, a5, a6, a7, a8, a9, a10, a11, a12, a13, a14, a15, a16, a17, a18, a19, a20, a21, a22, a23, a24, a25) := by
  unfold wpX_anyWaits
  dsimp only
  refine pk_loop (σ := Unit) (fun n i _ => wX_anyWaits_2 post ph lf ck sc di a1 a2 a3 a4 a5 a6 a7 a8 a9 a10 a11 a12 a13 a14 a15 a16 a17 a18 a19 a20 a21 a22 a23 a24 a25 n (nI i)) (fun _ _ => True) s 0 () (by omega) trivial ?_ ?_
  · intro n _ _
    have e : (nI s).toNatClampNeg = s := nI_clamp (by omega)
    show wX_anyWaits_2 post ph lf ck sc di a1 a2 a3 a4 a5 a6 a7 a8 a9 a10 a11 a12 a13 a14 a15 a16 a17 a18 a19 a20 a21 a22 a23 a24 a25 (n + 1) (nI s)
    unfold wX_anyWaits_2
    rw [e, h1 s hs, wn_Ag h6 s hs, if_pos rfl]
    exact pk_le 4 s (fun z => absurd z (by omega)) (fun _ => ⟨vp_in_nI hs (by decide), br_f (by decide) ⟨vp_in_nI (by omega) (by decide), br_f (by decide) H⟩⟩)
  · intro n i _ hi _ hk
    have e : (nI i).toNatClampNeg = i := nI_clamp (by omega)
    show wX_anyWaits_2 post ph lf ck sc di a1 a2 a3 a4 a5 a6 a7 a8 a9 a10 a11 a12 a13 a14 a15 a16 a17 a18 a19 a20 a21 a22 a23 a24 a25 (n + 1) (nI i)
    unfold wX_anyWaits_2
    rw [e, h1 i (by omega), wn_Ag h6 i (by omega), if_neg (show ¬ i = s by omega)]
    exact pk_le 4 i (fun z => absurd z (by omega)) (fun _ => ⟨vp_in_nI (by omega) (by decide), br_f (by decide) ⟨vp_in_nI (by omega) (by decide), br_t (by decide) (nm_r (nI_1 i) (hk () trivial))⟩⟩)
theorem wn_any0 {post : Int32 → Prop} {ph lf ck sc di : Int32} {a1 a2 a3 a4 a5 a6 a7 a8 a10 a11 a12 a14 a15 a16 a17 a18 a19 a20 a21 a22 a24 a25 : Nat → Int32} {a9 a13 a23 : Nat → Int64} (h : ∀ n, n < 4 → a1 n = 0 ∨ a6 n = 0) (H : post 0) : wpX_anyWaits post (ph, lf, ck, sc, di, a1, a2, a3, a4, a5, a6, a7, a8, a9, a10, a11, a12, a13, a14, a15, a16, a17, a18, a19, a20, a21, a22, a23, a24, a25) := by
  unfold wpX_anyWaits
  dsimp only
  refine pk_loop (σ := Unit) (fun n i _ => wX_anyWaits_2 post ph lf ck sc di a1 a2 a3 a4 a5 a6 a7 a8 a9 a10 a11 a12 a13 a14 a15 a16 a17 a18 a19 a20 a21 a22 a23 a24 a25 n (nI i)) (fun _ _ => True) 4 0 () (by omega) trivial ?_ ?_
  · intro n _ _
    exact pk_le 4 4 (fun _ => H) (fun z => absurd z (by omega))
  · intro n i _ hi _ hk
    have e : (nI i).toNatClampNeg = i := nI_clamp (by omega)
    have K := hk () trivial
    show wX_anyWaits_2 post ph lf ck sc di a1 a2 a3 a4 a5 a6 a7 a8 a9 a10 a11 a12 a13 a14 a15 a16 a17 a18 a19 a20 a21 a22 a23 a24 a25 (n + 1) (nI i)
    unfold wX_anyWaits_2
    rw [e]
    refine pk_le 4 i (fun z => absurd z (by omega)) (fun _ => ⟨vp_in_nI (by omega) (by decide), br_c (fun _ => nm_r (nI_1 i) K) (fun z => ⟨vp_in_nI (by omega) (by decide), br_t ?_ (nm_r (nI_1 i) K)⟩)⟩)
    rcases h i hi with y | y
    · exact absurd y z
    · rw [y]
      decide
theorem wn_begin {post : St2 → Prop} {ph lf ck sc di : Int32} {a1 a2 a3 a4 a5 a6 a7 a8 a10 a11 a12 a14 a15 a16 a17 a18 a19 a20 a21 a22 a24 a25 : Nat → Int32} {a9 a13 a23 : Nat → Int64} {id len d s : Nat} (hs : s < 4) (hid : id < 2048) (hl : len ≤ 8) (h1 : ∀ n, n < 4 → a1 n = 1) (h6 : wn_A a6 (fun n => if n = s then 1 else 0))
    (H : ∀ (b15 b16 : Nat → Int32) (b17 b18 b19 b20 b21 b22 : Nat → Int32) (b23 : Nat → Int64) (b24 b25 : Nat → Int32), (∀ n, n < 4 → (n = s ∧ b15 n = 1) ∨ (n ≠ s ∧ b15 n = 2)) → (∀ n, n < 4 → b16 n = 0) → (∀ n, n < 4 → wn_R id len d (wn_W id len d 0) b17 b18 b19 b20 b21 b22 b24 b25 n) → post (1, lf, ck, sc, di, a1, a2, a3, a4, a5, a6, a7, a8, a9, a10, a11, a12, a13, a14, b15, b16, b17, b18, b19, b20, b21, b22, b23, b24, b25)) : wpX_beginFrame post (ph, lf, ck, sc, di, a1, a2, a3, a4, a5, a6, a7, a8, a9, a10, a11, a12, a13, a14, a15, a16, a17, a18, a19, a20, a21, a22, a23, a24, a25) := by
  unfold wpX_beginFrame
  dsimp only
  refine pk_loop (σ := (Nat → Int32) × (Nat → Int32) × (Nat → Int32) × (Nat → Int32) × (Nat → Int32) × (Nat → Int32) × (Nat → Int32) × (Nat → Int32) × (Nat → Int64) × (Nat → Int32) × (Nat → Int32))
    (fun n i x => wX_beginFrame_7 post n (nI i) 1 lf ck sc di a1 a2 a3 a4 a5 a6 a7 a8 a9 a10 a11 a12 a13 a14 x.1 x.2.1 x.2.2.1 x.2.2.2.1 x.2.2.2.2.1 x.2.2.2.2.2.1 x.2.2.2.2.2.2.1 x.2.2.2.2.2.2.2.1 x.2.2.2.2.2.2.2.2.1 x.2.2.2.2.2.2.2.2.2.1 x.2.2.2.2.2.2.2.2.2.2)
    (fun i x => (∀ n, n < i → (n = s ∧ x.1 n = 1) ∨ (n ≠ s ∧ x.1 n = 2)) ∧ (∀ n, n < i → x.2.1 n = 0) ∧ (∀ n, n < i → wn_R id len d (wn_W id len d 0) x.2.2.1 x.2.2.2.1 x.2.2.2.2.1 x.2.2.2.2.2.1 x.2.2.2.2.2.2.1 x.2.2.2.2.2.2.2.1 x.2.2.2.2.2.2.2.2.2.1 x.2.2.2.2.2.2.2.2.2.2 n))
    4 0 (a15, a16, a17, a18, a19, a20, a21, a22, a23, a24, a25) (by omega) ⟨fun _ z => absurd z (by omega), fun _ z => absurd z (by omega), fun _ z => absurd z (by omega)⟩ ?_ ?_
  · intro n ⟨b15, b16, b17, b18, b19, b20, b21, b22, b23, b24, b25⟩ ⟨j1, j2, j3⟩
    exact pk_le 4 4 (fun _ => H b15 b16 b17 b18 b19 b20 b21 b22 b23 b24 b25 j1 j2 j3) (fun z => absurd z (by omega))
  · intro n i ⟨b15, b16, b17, b18, b19, b20, b21, b22, b23, b24, b25⟩ hi ⟨j1, j2, j3⟩ hk
    dsimp only at j1 j2 j3
    have e : (nI i).toNatClampNeg = i := nI_clamp (by omega)
    have iv : vp_in (nI i) 5 := vp_in_nI (by omega) (by decide)
    have iw : vp_in (nI i) 4 := vp_in_nI hi (by decide)
    show wX_beginFrame_7 post (n + 1) (nI i) 1 lf ck sc di a1 a2 a3 a4 a5 a6 a7 a8 a9 a10 a11 a12 a13 a14 b15 b16 b17 b18 b19 b20 b21 b22 b23 b24 b25
    unfold wX_beginFrame_7
    rw [e, h1 i hi]
    refine pk_le 4 i (fun z => absurd z (by omega)) (fun _ => ⟨iv, nm_e ⟨iw, br_f (by decide) (wn_bl (id := id) (len := len) (d := d) (by omega) hid hl ?_)⟩⟩)
    intro c17 c18 c19 c20 c21 c22 c23 c24 c25 hO hR
    dsimp only
    rw [wn_Ag h6 i hi]
    have L : ∀ (z : Nat), ((i = s ∧ z = 1) ∨ (i ≠ s ∧ z = 2)) → wX_beginFrame_52 post (wX_beginFrame_7 post n) (nI i) (nI z) (nI i) 1 lf ck sc di a1 a2 a3 a4 a5 a6 a7 a8 a9 a10 a11 a12 a13 a14 (upd b15 i 0) b16 c17 c18 c19 c20 c21 c22 c23 c24 c25 := by
      intro z hz
      unfold wX_beginFrame_52
      rw [e]
      refine ⟨iv, nm_e (wn_choose (by omega) (h6 i hi) (by dsimp only; split <;> omega) ⟨iv, nm_e (nm_r (nI_1 i) ?_)⟩)⟩
      refine hk (upd (upd b15 i 0) i (nI z), upd b16 i 0, c17, c18, c19, c20, c21, c22, c23, c24, c25) ⟨fun m hm => ?_, fun m hm => ?_, fun m hm => ?_⟩
      · show (m = s ∧ upd (upd b15 i 0) i (nI z) m = 1) ∨ (m ≠ s ∧ upd (upd b15 i 0) i (nI z) m = 2)
        by_cases em : m = i
        · rw [em, pk_us]
          rcases hz with ⟨y1, y2⟩ | ⟨y1, y2⟩
          · exact Or.inl ⟨y1, by rw [y2]; rfl⟩
          · exact Or.inr ⟨y1, by rw [y2]; rfl⟩
        · rw [pk_un em, pk_un em]
          exact j1 m (by omega)
      · show upd b16 i 0 m = 0
        by_cases em : m = i
        · rw [em, pk_us]
        · rw [pk_un em]
          exact j2 m (by omega)
      · show wn_R id len d (wn_W id len d 0) c17 c18 c19 c20 c21 c22 c24 c25 m
        by_cases em : m = i
        · rw [em]
          exact hR
        · exact wn_RO hO em (j3 m (by omega))
    refine ⟨iv, ?_⟩
    by_cases es : i = s
    · rw [if_pos es]
      exact br_f (by decide) (L 1 (Or.inl ⟨es, rfl⟩))
    · rw [if_neg es]
      exact br_t (by decide) (L 2 (Or.inr ⟨es, rfl⟩))
/-! the states of the law -/
/-- what stays over a bit: who is on, counts, filters, the frame that waits in s (or none) -/
def wn_Q (id len d s fr wc : Nat) (on sd rc ic : Nat → Nat) (a1 a2 a3 a4 a5 a6 a7 a8 : Nat → Int32) (a9 : Nat → Int64) (a10 a14 : Nat → Int32) : Prop :=
  wn_A a1 on ∧ wn_A a2 sd ∧ wn_A a3 rc ∧ wn_Fl id fr a4 a5 ∧ wn_A a6 (fun n => if n = s then wc else 0) ∧ (wc = 1 → wn_C id len d s a7 a8 a9) ∧ wn_A a10 ic ∧ wn_A a14 (fun _ => 0)
/-- no frame under way: phase p, l bits left -/
def wn_I (id len d s fr wc : Nat) (on sd rc ic : Nat → Nat) (p l c t g : Nat) (u : St2) : Prop := match u with
  | (ph, lf, ck, sc, di, a1, a2, a3, a4, a5, a6, a7, a8, a9, a10, a11, a12, a13, a14, a15, a16, a17, a18, a19, a20, a21, a22, a23, a24, a25) => ph = nI p ∧ lf = nI l ∧ ck = nI c ∧ sc = nI t ∧ di = nI g ∧ wn_Q id len d s fr wc on sd rc ic a1 a2 a3 a4 a5 a6 a7 a8 a9 a10 a14
/-- a frame under way: j bits of it are on the wire -/
def wn_F (id len d s fr : Nat) (on sd rc ic : Nat → Nat) (j c t g : Nat) (u : St2) : Prop := match u with
  | (ph, lf, ck, sc, di, a1, a2, a3, a4, a5, a6, a7, a8, a9, a10, a11, a12, a13, a14, a15, a16, a17, a18, a19, a20, a21, a22, a23, a24, a25) => ph = 1 ∧ ck = nI c ∧ sc = nI t ∧ di = nI g ∧ wn_Q id len d s fr 1 on sd rc ic a1 a2 a3 a4 a5 a6 a7 a8 a9 a10 a14 ∧ (∀ n, n < 4 → (n = s ∧ a15 n = 1) ∨ (n ≠ s ∧ a15 n = 2)) ∧ (∀ n, n < 4 → a16 n = 0) ∧ (∀ n, n < 4 → wn_R id len d (wn_W id len d j) a17 a18 a19 a20 a21 a22 a24 a25 n)
/-- j bits of the frame are on the wire; none: it waits -/
def wn_G (id len d s fr : Nat) (on sd rc ic : Nat → Nat) (j c t g : Nat) (u : St2) : Prop := (j = 0 ∧ wn_I id len d s fr 1 on sd rc ic 0 0 c t g u) ∨ (j ≠ 0 ∧ wn_F id len d s fr on sd rc ic j c t g u)
/-- one turn of run leads from P to P' -/
def wn_ok (P P' : St2 → Prop) : Prop := ∀ (post : Int32 → St2 → Prop) (J : Int32 → Int32 → Int32 → Int32 → Int32 → Int32 → (Nat → Int32) → (Nat → Int32) → (Nat → Int32) → (Nat → Int32) → (Nat → Int32) → (Nat → Int32) → (Nat → Int32) → (Nat → Int32) → (Nat → Int64) → (Nat → Int32) → (Nat → Int32) → (Nat → Int32) → (Nat → Int64) → (Nat → Int32) → (Nat → Int32) → (Nat → Int32) → (Nat → Int32) → (Nat → Int32) → (Nat → Int32) → (Nat → Int32) → (Nat → Int32) → (Nat → Int32) → (Nat → Int64) → (Nat → Int32) → (Nat → Int32) → Prop) (x1 x2 : Int32) (i : Nat) (ph lf ck sc di : Int32) (a1 a2 a3 a4 a5 a6 a7 a8 : Nat → Int32) (a9 : Nat → Int64) (a10 a11 a12 : Nat → Int32) (a13 : Nat → Int64) (a14 a15 a16 a17 a18 a19 a20 a21 a22 : Nat → Int32) (a23 : Nat → Int64) (a24 a25 : Nat → Int32), P (ph, lf, ck, sc, di, a1, a2, a3, a4, a5, a6, a7, a8, a9, a10, a11, a12, a13, a14, a15, a16, a17, a18, a19, a20, a21, a22, a23, a24, a25) → (∀ (ph lf ck sc di : Int32) (a1 a2 a3 a4 a5 a6 a7 a8 : Nat → Int32) (a9 : Nat → Int64) (a10 a11 a12 : Nat → Int32) (a13 : Nat → Int64) (a14 a15 a16 a17 a18 a19 a20 a21 a22 : Nat → Int32) (a23 : Nat → Int64) (a24 a25 : Nat → Int32), P' (ph, lf, ck, sc, di, a1, a2, a3, a4, a5, a6, a7, a8, a9, a10, a11, a12, a13, a14, a15, a16, a17, a18, a19, a20, a21, a22, a23, a24, a25) → J (nI (i + 1)) ph lf ck sc di a1 a2 a3 a4 a5 a6 a7 a8 a9 a10 a11 a12 a13 a14 a15 a16 a17 a18 a19 a20 a21 a22 a23 a24 a25) → ((di = 1 → wX_run_38 post J x1 x2 (nI i) 1 ph lf ck sc di a1 a2 a3 a4 a5 a6 a7 a8 a9 a10 a11 a12 a13 a14 a15 a16 a17 a18 a19 a20 a21 a22 a23 a24 a25) ∧ (¬ di = 1 → wX_run_38 post J x1 x2 (nI i) 0 ph lf ck sc di a1 a2 a3 a4 a5 a6 a7 a8 a9 a10 a11 a12 a13 a14 a15 a16 a17 a18 a19 a20 a21 a22 a23 a24 a25))
theorem wn_run {post : Int32 → St2 → Prop} {ph lf ck sc di : Int32} {a1 a2 a3 a4 a5 a6 a7 a8 a10 a11 a12 a14 a15 a16 a17 a18 a19 a20 a21 a22 a24 a25 : Nat → Int32} {a9 a13 a23 : Nat → Int64} {N : Nat} (R : Nat → St2 → Prop) (hN : N ≤ 2000) (h0 : R 0 (ph, lf, ck, sc, di, a1, a2, a3, a4, a5, a6, a7, a8, a9, a10, a11, a12, a13, a14, a15, a16, a17, a18, a19, a20, a21, a22, a23, a24, a25)) (hst : ∀ i, i < N → wn_ok (R i) (R (i + 1))) (H : ∀ u : St2, R N u → post (u.2.2.2.1 - sc) u) : wpX_run post (ph, lf, ck, sc, di, a1, a2, a3, a4, a5, a6, a7, a8, a9, a10, a11, a12, a13, a14, a15, a16, a17, a18, a19, a20, a21, a22, a23, a24, a25) (nI N) := by
  unfold wpX_run
  dsimp only
  refine pk_lt N 0 (fun z => absurd z (by omega)) (fun _ => pk_le N 2000 (fun _ => ?_) (fun z => absurd z (by omega)))
  refine pk_loop (σ := St2) (fun n i u => wX_run_20 post (nI N) sc n (nI i) u.1 u.2.1 u.2.2.1 u.2.2.2.1 u.2.2.2.2.1 u.2.2.2.2.2.1 u.2.2.2.2.2.2.1 u.2.2.2.2.2.2.2.1 u.2.2.2.2.2.2.2.2.1 u.2.2.2.2.2.2.2.2.2.1 u.2.2.2.2.2.2.2.2.2.2.1 u.2.2.2.2.2.2.2.2.2.2.2.1 u.2.2.2.2.2.2.2.2.2.2.2.2.1 u.2.2.2.2.2.2.2.2.2.2.2.2.2.1 u.2.2.2.2.2.2.2.2.2.2.2.2.2.2.1 u.2.2.2.2.2.2.2.2.2.2.2.2.2.2.2.1 u.2.2.2.2.2.2.2.2.2.2.2.2.2.2.2.2.1 u.2.2.2.2.2.2.2.2.2.2.2.2.2.2.2.2.2.1 u.2.2.2.2.2.2.2.2.2.2.2.2.2.2.2.2.2.2.1 u.2.2.2.2.2.2.2.2.2.2.2.2.2.2.2.2.2.2.2.1 u.2.2.2.2.2.2.2.2.2.2.2.2.2.2.2.2.2.2.2.2.1 u.2.2.2.2.2.2.2.2.2.2.2.2.2.2.2.2.2.2.2.2.2.1 u.2.2.2.2.2.2.2.2.2.2.2.2.2.2.2.2.2.2.2.2.2.2.1 u.2.2.2.2.2.2.2.2.2.2.2.2.2.2.2.2.2.2.2.2.2.2.2.1 u.2.2.2.2.2.2.2.2.2.2.2.2.2.2.2.2.2.2.2.2.2.2.2.2.1 u.2.2.2.2.2.2.2.2.2.2.2.2.2.2.2.2.2.2.2.2.2.2.2.2.2.1 u.2.2.2.2.2.2.2.2.2.2.2.2.2.2.2.2.2.2.2.2.2.2.2.2.2.2.1 u.2.2.2.2.2.2.2.2.2.2.2.2.2.2.2.2.2.2.2.2.2.2.2.2.2.2.2.1 u.2.2.2.2.2.2.2.2.2.2.2.2.2.2.2.2.2.2.2.2.2.2.2.2.2.2.2.2.1 u.2.2.2.2.2.2.2.2.2.2.2.2.2.2.2.2.2.2.2.2.2.2.2.2.2.2.2.2.2) R N 0 (ph, lf, ck, sc, di, a1, a2, a3, a4, a5, a6, a7, a8, a9, a10, a11, a12, a13, a14, a15, a16, a17, a18, a19, a20, a21, a22, a23, a24, a25) (by omega) h0 ?_ ?_
  · intro n ⟨ph, lf, ck, sc, di, a1, a2, a3, a4, a5, a6, a7, a8, a9, a10, a11, a12, a13, a14, a15, a16, a17, a18, a19, a20, a21, a22, a23, a24, a25⟩ hR
    exact pk_le N N (fun _ => H _ hR) (fun z => absurd z (by omega))
  · intro n i ⟨ph, lf, ck, sc, di, a1, a2, a3, a4, a5, a6, a7, a8, a9, a10, a11, a12, a13, a14, a15, a16, a17, a18, a19, a20, a21, a22, a23, a24, a25⟩ hi hR hk
    exact pk_le N i (fun z => absurd z (by omega)) (fun _ => hst i hi post _ (nI N) _ i _ _ _ _ _ _ _ _ _ _ _ _ _ _ _ _ _ _ _ _ _ _ _ _ _ _ _ _ _ _ hR (fun ph lf ck sc di a1 a2 a3 a4 a5 a6 a7 a8 a9 a10 a11 a12 a13 a14 a15 a16 a17 a18 a19 a20 a21 a22 a23 a24 a25 h => hk (ph, lf, ck, sc, di, a1, a2, a3, a4, a5, a6, a7, a8, a9, a10, a11, a12, a13, a14, a15, a16, a17, a18, a19, a20, a21, a22, a23, a24, a25) h))
end
section
/-! ===== the turns of run, by the states ===== -/
theorem wn_stepN {post : St2 → Prop} {ph lf ck sc di : Int32} {a1 a2 a3 a4 a5 a6 a7 a8 a10 a11 a12 a14 a15 a16 a17 a18 a19 a20 a21 a22 a24 a25 : Nat → Int32} {a9 a13 a23 : Nat → Int64} {c g : Nat} (hck : ck = nI c) (hdi : di = nI g) (hg : g < 2 ^ 31) (hph : ¬ ph = 0) (H : post (ph, lf, (nI (c + 1)), sc, (nI (g - 1)), a1, a2, a3, a4, a5, a6, a7, a8, a9, a10, a11, a12, a13, a14, a15, a16, a17, a18, a19, a20, a21, a22, a23, a24, a25)) : wpX_step post (ph, lf, ck, sc, di, a1, a2, a3, a4, a5, a6, a7, a8, a9, a10, a11, a12, a13, a14, a15, a16, a17, a18, a19, a20, a21, a22, a23, a24, a25) := by
  subst hck hdi
  have key : ∀ z : Nat, z ≤ g → g - z = g - 1 → wX_step_27 post (nI z) (nI g) ph lf (nI (c + 1)) sc (nI g) a1 a2 a3 a4 a5 a6 a7 a8 a9 a10 a11 a12 a13 a14 a15 a16 a17 a18 a19 a20 a21 a22 a23 a24 a25 := by
    intro z hz hz2
    unfold wX_step_27
    refine nm_r (pk_sub hz) (br_f hph ?_)
    rw [hz2]
    exact H
  unfold wpX_step
  dsimp only
  exact nm_r (nI_1 c) (pk_le g 0 (fun h => key 0 (by omega) (by omega)) (fun h => key 1 (by omega) (by omega)))
theorem wn_stepI {post : St2 → Prop} {ph lf ck sc di : Int32} {a1 a2 a3 a4 a5 a6 a7 a8 a10 a11 a12 a14 a15 a16 a17 a18 a19 a20 a21 a22 a24 a25 : Nat → Int32} {a9 a13 a23 : Nat → Int64} {c g : Nat} (hck : ck = nI c) (hdi : di = nI g) (hg : g < 2 ^ 31) (hph : ph = 0) (hn : ∀ n, n < 4 → a1 n = 0 ∨ a6 n = 0) (H : post (ph, lf, (nI (c + 1)), sc, (nI (g - 1)), a1, a2, a3, a4, a5, a6, a7, a8, a9, a10, a11, a12, a13, a14, a15, a16, a17, a18, a19, a20, a21, a22, a23, a24, a25)) : wpX_step post (ph, lf, ck, sc, di, a1, a2, a3, a4, a5, a6, a7, a8, a9, a10, a11, a12, a13, a14, a15, a16, a17, a18, a19, a20, a21, a22, a23, a24, a25) := by
  subst hck hdi
  have key : ∀ z : Nat, z ≤ g → g - z = g - 1 → wX_step_27 post (nI z) (nI g) ph lf (nI (c + 1)) sc (nI g) a1 a2 a3 a4 a5 a6 a7 a8 a9 a10 a11 a12 a13 a14 a15 a16 a17 a18 a19 a20 a21 a22 a23 a24 a25 := by
    intro z hz hz2
    unfold wX_step_27
    refine nm_r (pk_sub hz) (br_t hph (wn_any0 hn (br_t rfl ?_)))
    rw [hz2]
    exact H
  unfold wpX_step
  dsimp only
  exact nm_r (nI_1 c) (pk_le g 0 (fun h => key 0 (by omega) (by omega)) (fun h => key 1 (by omega) (by omega)))
theorem wn_stepB {post : St2 → Prop} {ph lf ck sc di : Int32} {a1 a2 a3 a4 a5 a6 a7 a8 a10 a11 a12 a14 a15 a16 a17 a18 a19 a20 a21 a22 a24 a25 : Nat → Int32} {a9 a13 a23 : Nat → Int64} {id len d s c g : Nat} (hck : ck = nI c) (hdi : di = nI g) (hg : g < 2 ^ 31) (hph : ph = 0) (hs : s < 4) (hid : id < 2048) (hl : len ≤ 8) (h1 : ∀ n, n < 4 → a1 n = 1) (h6 : wn_A a6 (fun n => if n = s then 1 else 0))
    (H : ∀ (b15 b16 : Nat → Int32) (b17 b18 b19 b20 b21 b22 : Nat → Int32) (b23 : Nat → Int64) (b24 b25 : Nat → Int32), (∀ n, n < 4 → (n = s ∧ b15 n = 1) ∨ (n ≠ s ∧ b15 n = 2)) → (∀ n, n < 4 → b16 n = 0) → (∀ n, n < 4 → wn_R id len d (wn_W id len d 0) b17 b18 b19 b20 b21 b22 b24 b25 n) → post (1, lf, (nI (c + 1)), sc, (nI (g - 1)), a1, a2, a3, a4, a5, a6, a7, a8, a9, a10, a11, a12, a13, a14, b15, b16, b17, b18, b19, b20, b21, b22, b23, b24, b25)) : wpX_step post (ph, lf, ck, sc, di, a1, a2, a3, a4, a5, a6, a7, a8, a9, a10, a11, a12, a13, a14, a15, a16, a17, a18, a19, a20, a21, a22, a23, a24, a25) := by
  subst hck hdi
  have key : ∀ z : Nat, z ≤ g → g - z = g - 1 → wX_step_27 post (nI z) (nI g) ph lf (nI (c + 1)) sc (nI g) a1 a2 a3 a4 a5 a6 a7 a8 a9 a10 a11 a12 a13 a14 a15 a16 a17 a18 a19 a20 a21 a22 a23 a24 a25 := by
    intro z hz hz2
    unfold wX_step_27
    refine nm_r (pk_sub hz) (br_t hph (wn_any1 hs h1 h6 (br_f (by decide) (wn_begin (id := id) (len := len) (d := d) hs hid hl h1 h6 ?_))))
    intro b15 b16 b17 b18 b19 b20 b21 b22 b23 b24 b25 k1 k2 k3
    have K := H b15 b16 b17 b18 b19 b20 b21 b22 b23 b24 b25 k1 k2 k3
    rw [hz2]
    exact K
  unfold wpX_step
  dsimp only
  exact nm_r (nI_1 c) (pk_le g 0 (fun h => key 0 (by omega) (by omega)) (fun h => key 1 (by omega) (by omega)))
theorem wn_wait {post : St2 → Prop} {ph lf ck sc di : Int32} {a1 a2 a3 a4 a5 a6 a7 a8 a10 a11 a12 a14 a15 a16 a17 a18 a19 a20 a21 a22 a24 a25 : Nat → Int32} {a9 a13 a23 : Nat → Int64} {p l p' l' : Nat} (hph : ph = nI p) (hlf : lf = nI l) (hl : l < 2 ^ 31) (h0 : 1 ≤ l) (h : (1 < l ∧ p' = p ∧ l' = l - 1) ∨ (l = 1 ∧ p = 2 ∧ p' = 3 ∧ l' = 3) ∨ (l = 1 ∧ p = 3 ∧ p' = 0 ∧ l' = 0)) (H : post ((nI p'), (nI l'), ck, sc, di, a1, a2, a3, a4, a5, a6, a7, a8, a9, a10, a11, a12, a13, a14, a15, a16, a17, a18, a19, a20, a21, a22, a23, a24, a25)) : wpX_wait1 post (ph, lf, ck, sc, di, a1, a2, a3, a4, a5, a6, a7, a8, a9, a10, a11, a12, a13, a14, a15, a16, a17, a18, a19, a20, a21, a22, a23, a24, a25) := by
  subst hph hlf
  unfold wpX_wait1
  dsimp only
  refine nm_r (pk_sub (b := 1) h0) ?_
  rcases h with ⟨h1, h2, h3⟩ | ⟨h1, h2, h3, h4⟩ | ⟨h1, h2, h3, h4⟩
  · subst h2 h3
    exact pk_le (l - 1) 0 (fun z => absurd z (by omega)) (fun _ => H)
  · subst h1 h2 h3 h4
    exact pk_le (1 - 1) 0 (fun _ => br_t rfl H) (fun z => absurd z (by omega))
  · subst h1 h2 h3 h4
    exact pk_le (1 - 1) 0 (fun _ => br_f (by decide) H) (fun z => absurd z (by omega))
/-! counts behind a break and behind a frame that was sent -/
def wn_onB (s : Nat) (on sd : Nat → Nat) : Nat → Nat := fun n => if n = s then (if sd n + 8 ≤ 255 then 1 else 0) else on n
def wn_sdB (s : Nat) (sd : Nat → Nat) : Nat → Nat := fun n => if n = s then sd n + 8 else sd n
def wn_rcB (s : Nat) (rc : Nat → Nat) : Nat → Nat := fun n => if n = s then rc n else rc n + 1
def wn_sdD (s : Nat) (sd : Nat → Nat) : Nat → Nat := fun n => if n = s then sd n - 1 else sd n
def wn_rcD (s : Nat) (rc : Nat → Nat) : Nat → Nat := fun n => if n = s then rc n else rc n - 1
def wn_icD (s fr : Nat) (ic : Nat → Nat) : Nat → Nat := fun n => if n = s ∨ n = fr then ic n else ic n + 1
/-- what is known of the counts -/
def wn_B (s : Nat) (on sd rc ic : Nat → Nat) : Prop := (∀ n, n < 4 → on n = 1) ∧ (∀ n, n < 4 → sd n ≤ 255) ∧ (∀ n, n < 4 → rc n < 255) ∧ (∀ n, n < 4 → ic n < 6)
def wn_V (id len d s : Nat) : Prop := s < 4 ∧ id < 2048 ∧ len ≤ 8 ∧ d < 2 ^ 64
theorem wn_bitF {post : St2 → Prop} {ph lf ck sc di : Int32} {a1 a2 a3 a4 a5 a6 a7 a8 a10 a11 a12 a14 a15 a16 a17 a18 a19 a20 a21 a22 a24 a25 : Nat → Int32} {a9 a13 a23 : Nat → Int64} {id len d s fr : Nat} {on sd rc ic : Nat → Nat} {w : Nat × Int32 × Nat × Nat} {dz : Int32} (hv : wn_V id len d s) (hB : wn_B s on sd rc ic) (hw : wn_wf len w) (ht : w.2.2.2 < 1000) (hQ : wn_Q id len d s fr 1 on sd rc ic a1 a2 a3 a4 a5 a6 a7 a8 a9 a10 a14) (hr : ∀ n, n < 4 → (n = s ∧ a15 n = 1) ∨ (n ≠ s ∧ a15 n = 2)) (h16 : ∀ n, n < 4 → a16 n = 0) (hR : ∀ n, n < 4 → wn_R id len d w a17 a18 a19 a20 a21 a22 a24 a25 n) (hT : (wn_nx id len d w).2.2.2 = 10 → (wn_nx id len d w).1 = 34 + 8 * len) (hT2 : (wn_nx id len d w).2.2.2 < 1001)
    (HB : dz ≠ 0 ∧ wn_ct len w → ∀ (b1 b2 b3 b15 : Nat → Int32) (b17 b18 b19 b20 b21 b22 : Nat → Int32) (b23 : Nat → Int64) (b24 b25 : Nat → Int32), wn_Q id len d s fr 1 (wn_onB s on sd) (wn_sdB s sd) (wn_rcB s rc) ic b1 b2 b3 a4 a5 a6 a7 a8 a9 a10 a14 → post (2, 14, ck, sc, di, b1, b2, b3, a4, a5, a6, a7, a8, a9, a10, a11, a12, a13, a14, b15, a16, b17, b18, b19, b20, b21, b22, b23, b24, b25))
    (HF : ¬ (dz ≠ 0 ∧ wn_ct len w) → (wn_nx id len d w).2.2.2 ≠ 10 → ∀ (b17 b18 b19 b20 b21 b22 : Nat → Int32) (b23 : Nat → Int64) (b24 b25 : Nat → Int32), (∀ n, n < 4 → wn_R id len d (wn_nx id len d w) b17 b18 b19 b20 b21 b22 b24 b25 n) → post (ph, lf, ck, sc, di, a1, a2, a3, a4, a5, a6, a7, a8, a9, a10, a11, a12, a13, a14, a15, a16, b17, b18, b19, b20, b21, b22, b23, b24, b25))
    (HD : ¬ (dz ≠ 0 ∧ wn_ct len w) → (wn_nx id len d w).2.2.2 = 10 → ∀ (b2 b3 b6 b10 b11 b12 : Nat → Int32) (b13 : Nat → Int64) (b15 b16 : Nat → Int32) (b17 b18 b19 b20 b21 b22 : Nat → Int32) (b23 : Nat → Int64) (b24 b25 : Nat → Int32), wn_Q id len d s fr 0 on (wn_sdD s sd) (wn_rcD s rc) (wn_icD s fr ic) a1 b2 b3 a4 a5 b6 a7 a8 a9 b10 a14 → post (3, 3, ck, (sc + 1), di, a1, b2, b3, a4, a5, b6, a7, a8, a9, b10, b11, b12, b13, a14, b15, b16, b17, b18, b19, b20, b21, b22, b23, b24, b25)) : wpX_frameBit post (ph, lf, ck, sc, di, a1, a2, a3, a4, a5, a6, a7, a8, a9, a10, a11, a12, a13, a14, a15, a16, a17, a18, a19, a20, a21, a22, a23, a24, a25) dz := by
  obtain ⟨hs, hid, hl, hd⟩ := hv
  obtain ⟨hb1, hb2, hb3, hb4⟩ := hB
  obtain ⟨q1, q2, q3, q4, q5, q6, q7, q8⟩ := hQ
  have hN : ∀ n, n < 4 → wn_N id len d s n a7 a8 a15 a16 a9 := by
    intro n hn
    rcases hr n hn with ⟨es, h15⟩ | ⟨es, h15⟩
    · refine Or.inl ⟨es, h15, h16 n hn, ?_⟩
      rw [es]
      exact q6 rfl
    · exact Or.inr ⟨es, h15⟩
  by_cases hc : dz ≠ 0 ∧ wn_ct len w
  · refine wn_fb4 hs hid hl hd hw (by omega) hR hN (wn_fb41 (bv := 1) hs hid hl hd hw (by omega) hR hN (Or.inl ⟨hc.1, hc.2, rfl⟩) ?_)
    intro n b17 b18 b19 b20 b21 b22 b23 b24 b25 hR'
    refine pk_le 4 4 (fun _ => br_f (by decide) (wn_breakOff hs q1 q2 q3 hr (hb2 s hs) hb3 ?_)) (fun z => absurd z (by omega))
    intro b1 b2 b3 b15 k1 k2 k3
    exact HB hc b1 b2 b3 b15 b17 b18 b19 b20 b21 b22 b23 b24 b25 ⟨k1, k2, k3, q4, q5, q6, q7, q8⟩
  · refine wn_fb4 hs hid hl hd hw (by omega) hR hN (wn_fb41 (bv := 0) hs hid hl hd hw (by omega) hR hN (Or.inr ⟨hc, rfl⟩) ?_)
    intro n b17 b18 b19 b20 b21 b22 b23 b24 b25 hR'
    refine pk_le 4 4 (fun _ => br_t rfl (wn_fin4 (t := (wn_nx id len d w).2.2.2) hs hr (hR' s hs).2.2.2.2.2.2.2 (by omega) (fun z => ?_) (fun z => ?_))) (fun z => absurd z (by omega))
    · exact HF hc z b17 b18 b19 b20 b21 b22 b23 b24 b25 hR'
    · refine wn_fin53 (id := id) (fr := fr) (sd := sd) (rc := rc) (ic := ic) hs q2 q3 q5 q7 hr (h16 s hs) q4 (fun n hn => ?_) (fun n hn => ?_) (fun n hn => by have := hb2 n hn; omega) (fun n hn => by have := hb3 n hn; omega) hb4 ?_
      · rw [(hR' n hn).2.2.2.2.2.2.1, (hR' n hn).2.2.2.1, hT z, wn_hC_t]
      · rw [(hR' n hn).2.2.2.2.1, hT z, wn_hI_t (by omega)]
      · intro b2 b3 b6 b10 b11 b12 b13 b15 b16 k1 k2 k3 k4
        exact HD hc z b2 b3 b6 b10 b11 b12 b13 b15 b16 b17 b18 b19 b20 b21 b22 b23 b24 b25 ⟨q1, k1, k2, q4, fun m hm => by rw [wn_Ag k3 m hm]; dsimp only; split <;> rfl, fun z => absurd z (by omega), k4, q8⟩
theorem wn_bitG {post : St2 → Prop} {ph lf ck sc di : Int32} {a1 a2 a3 a4 a5 a6 a7 a8 a10 a11 a12 a14 a15 a16 a17 a18 a19 a20 a21 a22 a24 a25 : Nat → Int32} {a9 a13 a23 : Nat → Int64} {id len d s fr : Nat} {on sd rc ic : Nat → Nat} {P' : St2 → Prop} {j c t g : Nat} {dz : Int32} (hv : wn_V id len d s) (hB : wn_B s on sd rc ic) (hj : j < wn_o id len d (34 + 8 * len) + 10) (hj2 : j < 900) (hz : dz ≠ 0 ↔ g = 1)
    (hph : ph = 1) (hck : ck = nI (c + 1)) (hsc : sc = nI t) (hdi : di = nI (g - 1)) (hQ : wn_Q id len d s fr 1 on sd rc ic a1 a2 a3 a4 a5 a6 a7 a8 a9 a10 a14) (hr : ∀ n, n < 4 → (n = s ∧ a15 n = 1) ∨ (n ≠ s ∧ a15 n = 2)) (h16 : ∀ n, n < 4 → a16 n = 0) (hR : ∀ n, n < 4 → wn_R id len d (wn_W id len d j) a17 a18 a19 a20 a21 a22 a24 a25 n)
    (HB : g = 1 ∧ wn_ct len (wn_W id len d j) → ∀ u, wn_I id len d s fr 1 (wn_onB s on sd) (wn_sdB s sd) (wn_rcB s rc) ic 2 14 (c + 1) t (g - 1) u → P' u)
    (HF : ¬ (g = 1 ∧ wn_ct len (wn_W id len d j)) → j + 1 ≠ wn_o id len d (34 + 8 * len) + 10 → ∀ u, wn_G id len d s fr on sd rc ic (j + 1) (c + 1) t (g - 1) u → P' u)
    (HD : ¬ (g = 1 ∧ wn_ct len (wn_W id len d j)) → j + 1 = wn_o id len d (34 + 8 * len) + 10 → ∀ u, wn_I id len d s fr 0 on (wn_sdD s sd) (wn_rcD s rc) (wn_icD s fr ic) 3 3 (c + 1) (t + 1) (g - 1) u → P' u)
    (K : ∀ (ph lf ck sc di : Int32) (a1 a2 a3 a4 a5 a6 a7 a8 : Nat → Int32) (a9 : Nat → Int64) (a10 a11 a12 : Nat → Int32) (a13 : Nat → Int64) (a14 a15 a16 a17 a18 a19 a20 a21 a22 : Nat → Int32) (a23 : Nat → Int64) (a24 a25 : Nat → Int32), P' (ph, lf, ck, sc, di, a1, a2, a3, a4, a5, a6, a7, a8, a9, a10, a11, a12, a13, a14, a15, a16, a17, a18, a19, a20, a21, a22, a23, a24, a25) → post (ph, lf, ck, sc, di, a1, a2, a3, a4, a5, a6, a7, a8, a9, a10, a11, a12, a13, a14, a15, a16, a17, a18, a19, a20, a21, a22, a23, a24, a25)) : wpX_frameBit post (ph, lf, ck, sc, di, a1, a2, a3, a4, a5, a6, a7, a8, a9, a10, a11, a12, a13, a14, a15, a16, a17, a18, a19, a20, a21, a22, a23, a24, a25) dz := by
  have e1 : (wn_W id len d j).2.2.2 = j - wn_o id len d (34 + 8 * len) := wn_W_tc id len d j
  have e2 : (wn_nx id len d (wn_W id len d j)).2.2.2 = j + 1 - wn_o id len d (34 + 8 * len) := wn_W_tc id len d (j + 1)
  refine wn_bitF (w := wn_W id len d j) hv hB (wn_wfW id len d j) (by omega) hQ hr h16 hR (fun z => ?_) (by omega) (fun z => ?_) (fun z y => ?_) (fun z y => ?_)
  · exact (wn_W_T id len d (j + 1)).mpr (by omega)
  · intro b1 b2 b3 b15 b17 b18 b19 b20 b21 b22 b23 b24 b25 q
    exact K _ _ _ _ _ _ _ _ _ _ _ _ _ _ _ _ _ _ _ _ _ _ _ _ _ _ _ _ _ _ (HB ⟨hz.mp z.1, z.2⟩ _ ⟨rfl, rfl, hck, hsc, hdi, q⟩)
  · intro b17 b18 b19 b20 b21 b22 b23 b24 b25 hR'
    exact K _ _ _ _ _ _ _ _ _ _ _ _ _ _ _ _ _ _ _ _ _ _ _ _ _ _ _ _ _ _ (HF (fun x => z ⟨hz.mpr x.1, x.2⟩) (by omega) _ (Or.inr ⟨by omega, hph, hck, hsc, hdi, hQ, hr, h16, hR'⟩))
  · intro b2 b3 b6 b10 b11 b12 b13 b15 b16 b17 b18 b19 b20 b21 b22 b23 b24 b25 q
    exact K _ _ _ _ _ _ _ _ _ _ _ _ _ _ _ _ _ _ _ _ _ _ _ _ _ _ _ _ _ _ (HD (fun x => z ⟨hz.mpr x.1, x.2⟩) (by omega) _ ⟨rfl, rfl, hck, by rw [hsc]; exact nI_1 t, hdi, q⟩)
theorem wn_sX {id len d s fr : Nat} {on sd rc ic : Nat → Nat} {P' : St2 → Prop} {j c t g : Nat} (hv : wn_V id len d s) (hB : wn_B s on sd rc ic) (hj : j < wn_o id len d (34 + 8 * len) + 10) (hj2 : j < 900) (hg : g < 2 ^ 31)
    (HB : g = 1 ∧ wn_ct len (wn_W id len d j) → ∀ u, wn_I id len d s fr 1 (wn_onB s on sd) (wn_sdB s sd) (wn_rcB s rc) ic 2 14 (c + 1) t (g - 1) u → P' u)
    (HF : ¬ (g = 1 ∧ wn_ct len (wn_W id len d j)) → j + 1 ≠ wn_o id len d (34 + 8 * len) + 10 → ∀ u, wn_G id len d s fr on sd rc ic (j + 1) (c + 1) t (g - 1) u → P' u)
    (HD : ¬ (g = 1 ∧ wn_ct len (wn_W id len d j)) → j + 1 = wn_o id len d (34 + 8 * len) + 10 → ∀ u, wn_I id len d s fr 0 on (wn_sdD s sd) (wn_rcD s rc) (wn_icD s fr ic) 3 3 (c + 1) (t + 1) (g - 1) u → P' u) : wn_ok (wn_G id len d s fr on sd rc ic j c t g) P' := by
  intro post J x1 x2 i ph lf ck sc di a1 a2 a3 a4 a5 a6 a7 a8 a9 a10 a11 a12 a13 a14 a15 a16 a17 a18 a19 a20 a21 a22 a23 a24 a25 hG hk
  have hdi : di = nI g := by
    rcases hG with ⟨_, h⟩ | ⟨_, h⟩
    · exact h.2.2.2.2.1
    · exact h.2.2.2.1
  have core : ∀ dz : Int32, (dz ≠ 0 ↔ g = 1) → wX_run_38 post J x1 x2 (nI i) dz ph lf ck sc di a1 a2 a3 a4 a5 a6 a7 a8 a9 a10 a11 a12 a13 a14 a15 a16 a17 a18 a19 a20 a21 a22 a23 a24 a25 := by
    intro dz hz
    unfold wX_run_38
    rcases hG with ⟨j0, hI⟩ | ⟨j0, hI⟩
    · obtain ⟨p1, p2, p3, p4, p5, hQ⟩ := hI
      subst j0
      refine wn_stepB (id := id) (len := len) (d := d) (s := s) p3 p5 hg p1 hv.1 hv.2.1 hv.2.2.1 (fun n hn => ?_) hQ.2.2.2.2.1 ?_
      · rw [hQ.1 n hn, hB.1 n hn]
        rfl
      · intro b15 b16 b17 b18 b19 b20 b21 b22 b23 b24 b25 k1 k2 k3
        refine br_t rfl (wn_bitG (P' := P') hv hB hj hj2 hz rfl rfl p4 rfl hQ k1 k2 k3 HB HF HD ?_)
        intro ph lf ck sc di a1 a2 a3 a4 a5 a6 a7 a8 a9 a10 a11 a12 a13 a14 a15 a16 a17 a18 a19 a20 a21 a22 a23 a24 a25 h
        exact nm_r (nI_1 i) (hk _ _ _ _ _ _ _ _ _ _ _ _ _ _ _ _ _ _ _ _ _ _ _ _ _ _ _ _ _ _ h)
    · obtain ⟨p1, p3, p4, p5, hQ, k1, k2, k3⟩ := hI
      refine wn_stepN p3 p5 hg (by rw [p1]; decide) ?_
      refine br_t p1 (wn_bitG (P' := P') hv hB hj hj2 hz p1 rfl p4 rfl hQ k1 k2 k3 HB HF HD ?_)
      intro ph lf ck sc di a1 a2 a3 a4 a5 a6 a7 a8 a9 a10 a11 a12 a13 a14 a15 a16 a17 a18 a19 a20 a21 a22 a23 a24 a25 h
      exact nm_r (nI_1 i) (hk _ _ _ _ _ _ _ _ _ _ _ _ _ _ _ _ _ _ _ _ _ _ _ _ _ _ _ _ _ _ h)
  exact pk_eq g 1 (fun h => core 1 ⟨fun _ => h, fun _ => by decide⟩) (fun h => core 0 ⟨fun z => absurd rfl z, fun z => absurd z h⟩) hdi
theorem wn_sW {id len d s fr : Nat} {on sd rc ic : Nat → Nat} {wc p l p' l' c t g : Nat} (hg : g < 2 ^ 31) (hl : l < 2 ^ 31) (h0 : 1 ≤ l) (hp : p = 2 ∨ p = 3) (h : (1 < l ∧ p' = p ∧ l' = l - 1) ∨ (l = 1 ∧ p = 2 ∧ p' = 3 ∧ l' = 3) ∨ (l = 1 ∧ p = 3 ∧ p' = 0 ∧ l' = 0)) : wn_ok (wn_I id len d s fr wc on sd rc ic p l c t g) (wn_I id len d s fr wc on sd rc ic p' l' (c + 1) t (g - 1)) := by
  intro post J x1 x2 i ph lf ck sc di a1 a2 a3 a4 a5 a6 a7 a8 a9 a10 a11 a12 a13 a14 a15 a16 a17 a18 a19 a20 a21 a22 a23 a24 a25 hI hk
  obtain ⟨p1, p2, p3, p4, p5, hQ⟩ := hI
  have n1 : ¬ ph = 1 := by
    rcases hp with y | y
    · rw [p1, y]; decide
    · rw [p1, y]; decide
  have n0 : ¬ ph = 0 := by
    rcases hp with y | y
    · rw [p1, y]; decide
    · rw [p1, y]; decide
  have core : ∀ dz : Int32, wX_run_38 post J x1 x2 (nI i) dz ph lf ck sc di a1 a2 a3 a4 a5 a6 a7 a8 a9 a10 a11 a12 a13 a14 a15 a16 a17 a18 a19 a20 a21 a22 a23 a24 a25 := by
    intro dz
    unfold wX_run_38
    refine wn_stepN p3 p5 hg n0 ?_
    refine br_f n1 (br_f n0 (wn_wait p1 p2 hl h0 h ?_))
    exact nm_r (nI_1 i) (hk _ _ _ _ _ _ _ _ _ _ _ _ _ _ _ _ _ _ _ _ _ _ _ _ _ _ _ _ _ _ ⟨rfl, rfl, rfl, p4, rfl, hQ⟩)
  exact br_c (fun _ => core 1) (fun _ => core 0)
theorem wn_sI {id len d s fr : Nat} {on sd rc ic : Nat → Nat} {l c t g : Nat} (hs : s < 4) (hg : g < 2 ^ 31) (h : on s = 0) : wn_ok (wn_I id len d s fr 1 on sd rc ic 0 l c t g) (wn_I id len d s fr 1 on sd rc ic 0 l (c + 1) t (g - 1)) := by
  intro post J x1 x2 i ph lf ck sc di a1 a2 a3 a4 a5 a6 a7 a8 a9 a10 a11 a12 a13 a14 a15 a16 a17 a18 a19 a20 a21 a22 a23 a24 a25 hI hk
  obtain ⟨p1, p2, p3, p4, p5, hQ⟩ := hI
  have n1 : ¬ ph = 1 := by rw [p1]; decide
  have core : ∀ dz : Int32, wX_run_38 post J x1 x2 (nI i) dz ph lf ck sc di a1 a2 a3 a4 a5 a6 a7 a8 a9 a10 a11 a12 a13 a14 a15 a16 a17 a18 a19 a20 a21 a22 a23 a24 a25 := by
    intro dz
    unfold wX_run_38
    refine wn_stepI p3 p5 hg p1 (fun n hn => ?_) ?_
    · by_cases es : n = s
      · refine Or.inl ?_
        rw [hQ.1 n hn, es, h]
        rfl
      · refine Or.inr ?_
        rw [wn_Ag hQ.2.2.2.2.1 n hn, if_neg es]
        rfl
    · refine br_f n1 (br_t p1 ?_)
      exact nm_r (nI_1 i) (hk _ _ _ _ _ _ _ _ _ _ _ _ _ _ _ _ _ _ _ _ _ _ _ _ _ _ _ _ _ _ ⟨p1, p2, rfl, p4, rfl, hQ⟩)
  exact br_c (fun _ => core 1) (fun _ => core 0)
end
section
/-! ===== the public calls ===== -/
theorem wn_isNode {post : Int32 → Prop} {n : Nat} (hn : n < 4) (H : post 1) : wpX_isNode post () (nI n) := by
  unfold wpX_isNode
  exact pk_lt n 0 (fun z => absurd z (by omega)) (fun _ => pk_le 4 n (fun z => absurd z (by omega)) (fun _ => H))
theorem wn_isEl {post : Int32 → Prop} {n : Nat} (hn : n < 2048) (H : post 1) : wpX_isElevenBits post () (nI n) := by
  unfold wpX_isElevenBits
  exact pk_lt n 0 (fun z => absurd z (by omega)) (fun _ => pk_le 2048 n (fun z => absurd z (by omega)) (fun _ => H))

theorem wn_gSend {post : Int32 → Prop} {ph lf ck sc di : Int32} {a1 a2 a3 a4 a5 a6 a7 a8 a10 a11 a12 a14 a15 a16 a17 a18 a19 a20 a21 a22 a24 a25 : Nat → Int32} {a9 a13 a23 : Nat → Int64} {n : Nat} {v : Int32} (hn : n < 4) (h : a2 n = v) (H : post v) : wpX_sendErrors post (ph, lf, ck, sc, di, a1, a2, a3, a4, a5, a6, a7, a8, a9, a10, a11, a12, a13, a14, a15, a16, a17, a18, a19, a20, a21, a22, a23, a24, a25) (nI n) := by
  have e : (nI n).toNatClampNeg = n := nI_clamp (by omega)
  unfold wpX_sendErrors
  dsimp only
  rw [e, h]
  exact wn_isNode hn (br_f (by decide) ⟨vp_in_nI (by omega) (by decide), H⟩)
theorem wn_gRecv {post : Int32 → Prop} {ph lf ck sc di : Int32} {a1 a2 a3 a4 a5 a6 a7 a8 a10 a11 a12 a14 a15 a16 a17 a18 a19 a20 a21 a22 a24 a25 : Nat → Int32} {a9 a13 a23 : Nat → Int64} {n : Nat} {v : Int32} (hn : n < 4) (h : a3 n = v) (H : post v) : wpX_receiveErrors post (ph, lf, ck, sc, di, a1, a2, a3, a4, a5, a6, a7, a8, a9, a10, a11, a12, a13, a14, a15, a16, a17, a18, a19, a20, a21, a22, a23, a24, a25) (nI n) := by
  have e : (nI n).toNatClampNeg = n := nI_clamp (by omega)
  unfold wpX_receiveErrors
  dsimp only
  rw [e, h]
  exact wn_isNode hn (br_f (by decide) ⟨vp_in_nI (by omega) (by decide), H⟩)
theorem wn_gWait {post : Int32 → Prop} {ph lf ck sc di : Int32} {a1 a2 a3 a4 a5 a6 a7 a8 a10 a11 a12 a14 a15 a16 a17 a18 a19 a20 a21 a22 a24 a25 : Nat → Int32} {a9 a13 a23 : Nat → Int64} {n : Nat} {v : Int32} (hn : n < 4) (h : a6 n = v) (H : post v) : wpX_waiting post (ph, lf, ck, sc, di, a1, a2, a3, a4, a5, a6, a7, a8, a9, a10, a11, a12, a13, a14, a15, a16, a17, a18, a19, a20, a21, a22, a23, a24, a25) (nI n) := by
  have e : (nI n).toNatClampNeg = n := nI_clamp (by omega)
  unfold wpX_waiting
  dsimp only
  rw [e, h]
  exact wn_isNode hn (br_f (by decide) ⟨vp_in_nI (by omega) (by decide), H⟩)
theorem wn_gRcvd {post : Int32 → Prop} {ph lf ck sc di : Int32} {a1 a2 a3 a4 a5 a6 a7 a8 a10 a11 a12 a14 a15 a16 a17 a18 a19 a20 a21 a22 a24 a25 : Nat → Int32} {a9 a13 a23 : Nat → Int64} {n : Nat} {v : Int32} (hn : n < 4) (h : a10 n = v) (H : post v) : wpX_received post (ph, lf, ck, sc, di, a1, a2, a3, a4, a5, a6, a7, a8, a9, a10, a11, a12, a13, a14, a15, a16, a17, a18, a19, a20, a21, a22, a23, a24, a25) (nI n) := by
  have e : (nI n).toNatClampNeg = n := nI_clamp (by omega)
  unfold wpX_received
  dsimp only
  rw [e, h]
  exact wn_isNode hn (br_f (by decide) ⟨vp_in_nI (by omega) (by decide), H⟩)
theorem wn_gMiss {post : Int32 → Prop} {ph lf ck sc di : Int32} {a1 a2 a3 a4 a5 a6 a7 a8 a10 a11 a12 a14 a15 a16 a17 a18 a19 a20 a21 a22 a24 a25 : Nat → Int32} {a9 a13 a23 : Nat → Int64} {n : Nat} {v : Int32} (hn : n < 4) (h : a14 n = v) (H : post v) : wpX_missed post (ph, lf, ck, sc, di, a1, a2, a3, a4, a5, a6, a7, a8, a9, a10, a11, a12, a13, a14, a15, a16, a17, a18, a19, a20, a21, a22, a23, a24, a25) (nI n) := by
  have e : (nI n).toNatClampNeg = n := nI_clamp (by omega)
  unfold wpX_missed
  dsimp only
  rw [e, h]
  exact wn_isNode hn (br_f (by decide) ⟨vp_in_nI (by omega) (by decide), H⟩)
theorem wn_gOn {post : Int32 → Prop} {ph lf ck sc di : Int32} {a1 a2 a3 a4 a5 a6 a7 a8 a10 a11 a12 a14 a15 a16 a17 a18 a19 a20 a21 a22 a24 a25 : Nat → Int32} {a9 a13 a23 : Nat → Int64} {n v : Nat} (hn : n < 4) (h : a1 n = nI v) (hv : v ≤ 1) (H : post (nI v)) : wpX_isOn post (ph, lf, ck, sc, di, a1, a2, a3, a4, a5, a6, a7, a8, a9, a10, a11, a12, a13, a14, a15, a16, a17, a18, a19, a20, a21, a22, a23, a24, a25) (nI n) := by
  have e : (nI n).toNatClampNeg = n := nI_clamp (by omega)
  unfold wpX_isOn
  dsimp only
  rw [e, h]
  refine wn_isNode hn (br_f (by decide) ⟨vp_in_nI (by omega) (by decide), pk_eq v 0 (fun z => ?_) (fun z => ?_)⟩)
  · rw [z] at H
    exact H
  · rw [show v = 1 by omega] at H
    exact H
theorem wn_gUnder {post : Int32 → Prop} {ph lf ck sc di : Int32} {a1 a2 a3 a4 a5 a6 a7 a8 a10 a11 a12 a14 a15 a16 a17 a18 a19 a20 a21 a22 a24 a25 : Nat → Int32} {a9 a13 a23 : Nat → Int64} (h : ¬ ph = 1) (H : post (-2)) : wpX_underWay post (ph, lf, ck, sc, di, a1, a2, a3, a4, a5, a6, a7, a8, a9, a10, a11, a12, a13, a14, a15, a16, a17, a18, a19, a20, a21, a22, a23, a24, a25) := by
  unfold wpX_underWay
  dsimp only
  refine pk_loop (σ := Unit) (fun n i _ => wX_underWay_6 post ph lf ck sc di a1 a2 a3 a4 a5 a6 a7 a8 a9 a10 a11 a12 a13 a14 a15 a16 a17 a18 a19 a20 a21 a22 a23 a24 a25 n 2048 (nI i)) (fun _ _ => True) 4 0 () (by omega) trivial ?_ ?_
  · intro n _ _
    exact pk_le 4 4 (fun _ => br_t rfl H) (fun z => absurd z (by omega))
  · intro n i _ hi _ hk
    exact pk_le 4 i (fun z => absurd z (by omega)) (fun _ => br_f h (nm_r (nI_1 i) (hk () trivial)))
theorem wn_disturb {post : Int32 → St2 → Prop} {ph lf ck sc di : Int32} {a1 a2 a3 a4 a5 a6 a7 a8 a10 a11 a12 a14 a15 a16 a17 a18 a19 a20 a21 a22 a24 a25 : Nat → Int32} {a9 a13 a23 : Nat → Int64} {g : Nat} (h1 : 1 ≤ g) (h2 : g ≤ 1000) (H : post 0 (ph, lf, ck, sc, (nI g), a1, a2, a3, a4, a5, a6, a7, a8, a9, a10, a11, a12, a13, a14, a15, a16, a17, a18, a19, a20, a21, a22, a23, a24, a25)) : wpX_disturb post (ph, lf, ck, sc, di, a1, a2, a3, a4, a5, a6, a7, a8, a9, a10, a11, a12, a13, a14, a15, a16, a17, a18, a19, a20, a21, a22, a23, a24, a25) (nI g) := by
  unfold wpX_disturb
  dsimp only
  exact pk_lt g 1 (fun z => absurd z (by omega)) (fun _ => pk_le g 1000 (fun _ => H) (fun z => absurd z (by omega)))
theorem wn_restart {post : Int32 → St2 → Prop} {ph lf ck sc di : Int32} {a1 a2 a3 a4 a5 a6 a7 a8 a10 a11 a12 a14 a15 a16 a17 a18 a19 a20 a21 a22 a24 a25 : Nat → Int32} {a9 a13 a23 : Nat → Int64} {n v : Nat} (hn : n < 4) (h1 : a1 n = nI v) (hv : v ≤ 1) (hp1 : ¬ ph = 1) (hp2 : ¬ ph = 2) (H : post (nI (1 - v)) (ph, lf, ck, sc, di, (upd a1 n 1), (upd a2 n 0), (upd a3 n 0), a4, a5, a6, a7, a8, a9, a10, a11, a12, a13, a14, a15, a16, a17, a18, a19, a20, a21, a22, a23, a24, a25)) : wpX_restart post (ph, lf, ck, sc, di, a1, a2, a3, a4, a5, a6, a7, a8, a9, a10, a11, a12, a13, a14, a15, a16, a17, a18, a19, a20, a21, a22, a23, a24, a25) (nI n) := by
  have e : (nI n).toNatClampNeg = n := nI_clamp (by omega)
  have iw : vp_in (nI n) 4 := vp_in_nI hn (by decide)
  unfold wpX_restart
  dsimp only
  rw [e, h1]
  refine wn_isNode hn (br_f (by decide) (br_f hp1 (br_f hp2 ⟨iw, pk_eq v 0 (fun z => ?_) (fun z => ?_)⟩)))
  · rw [z] at H
    unfold wX_restart_42
    rw [e]
    exact ⟨iw, nm_e ⟨iw, nm_e ⟨iw, nm_e H⟩⟩⟩
  · rw [show v = 1 by omega] at H
    unfold wX_restart_42
    rw [e]
    exact ⟨iw, nm_e ⟨iw, nm_e ⟨iw, nm_e H⟩⟩⟩
theorem wn_restartB {post : Int32 → St2 → Prop} {ph lf ck sc di : Int32} {a1 a2 a3 a4 a5 a6 a7 a8 a10 a11 a12 a14 a15 a16 a17 a18 a19 a20 a21 a22 a24 a25 : Nat → Int32} {a9 a13 a23 : Nat → Int64} {n : Nat} (hn : n < 4) (hp2 : ph = 2) (H : post (-5) (ph, lf, ck, sc, di, a1, a2, a3, a4, a5, a6, a7, a8, a9, a10, a11, a12, a13, a14, a15, a16, a17, a18, a19, a20, a21, a22, a23, a24, a25)) : wpX_restart post (ph, lf, ck, sc, di, a1, a2, a3, a4, a5, a6, a7, a8, a9, a10, a11, a12, a13, a14, a15, a16, a17, a18, a19, a20, a21, a22, a23, a24, a25) (nI n) := by
  unfold wpX_restart
  dsimp only
  exact wn_isNode hn (br_f (by decide) (br_f (by rw [hp2]; decide) (br_t hp2 H)))
theorem wn_filter {post : Int32 → St2 → Prop} {ph lf ck sc di : Int32} {a1 a2 a3 a4 a5 a6 a7 a8 a10 a11 a12 a14 a15 a16 a17 a18 a19 a20 a21 a22 a24 a25 : Nat → Int32} {a9 a13 a23 : Nat → Int64} {n m v : Nat} (hn : n < 4) (hm : m < 2048) (hv : v < 2048) (H : post 0 (ph, lf, ck, sc, di, a1, a2, a3, (upd a4 n (nI m)), (upd a5 n (nI v)), a6, a7, a8, a9, a10, a11, a12, a13, a14, a15, a16, a17, a18, a19, a20, a21, a22, a23, a24, a25)) : wpX_filter post (ph, lf, ck, sc, di, a1, a2, a3, a4, a5, a6, a7, a8, a9, a10, a11, a12, a13, a14, a15, a16, a17, a18, a19, a20, a21, a22, a23, a24, a25) (nI n) (nI m) (nI v) := by
  have e : (nI n).toNatClampNeg = n := nI_clamp (by omega)
  have iw : vp_in (nI n) 4 := vp_in_nI hn (by decide)
  unfold wpX_filter
  dsimp only
  rw [e]
  exact wn_isNode hn (br_f (by decide) (wn_isEl hm (br_f (by decide) (wn_isEl hv (br_f (by decide) ⟨iw, nm_e ⟨iw, nm_e H⟩⟩)))))
theorem wn_place0 {post : Int32 → Prop} {ph lf ck sc di : Int32} {a1 a2 a3 a4 a5 a6 a7 a8 a10 a11 a12 a14 a15 a16 a17 a18 a19 a20 a21 a22 a24 a25 : Nat → Int32} {a9 a13 a23 : Nat → Int64} {x : Int32} (h6 : ∀ n, n < 4 → a6 n = 0) (H : post (-1)) : wpX_placeOf post (ph, lf, ck, sc, di, a1, a2, a3, a4, a5, a6, a7, a8, a9, a10, a11, a12, a13, a14, a15, a16, a17, a18, a19, a20, a21, a22, a23, a24, a25) x := by
  unfold wpX_placeOf
  dsimp only
  refine pk_loop (σ := Unit) (fun n i _ => wX_placeOf_2 post x ph lf ck sc di a1 a2 a3 a4 a5 a6 a7 a8 a9 a10 a11 a12 a13 a14 a15 a16 a17 a18 a19 a20 a21 a22 a23 a24 a25 n (nI i)) (fun _ _ => True) 4 0 () (by omega) trivial ?_ ?_
  · intro n _ _
    exact pk_le 4 4 (fun _ => H) (fun z => absurd z (by omega))
  · intro n i _ hi _ hk
    have e : (nI i).toNatClampNeg = i := nI_clamp (by omega)
    refine pk_le 4 i (fun z => absurd z (by omega)) (fun _ => ⟨1, ?_⟩)
    unfold wX_placeOf_9
    rw [e, h6 i hi]
    exact ⟨vp_in_nI (by omega) (by decide), br_t (by decide) (nm_r (nI_1 i) (hk () trivial))⟩
theorem wn_placeQ {post : Int32 → Prop} {ph lf ck sc di : Int32} {a1 a2 a3 a4 a5 a6 a7 a8 a10 a11 a12 a14 a15 a16 a17 a18 a19 a20 a21 a22 a24 a25 : Nat → Int32} {a9 a13 a23 : Nat → Int64} {q id : Nat} (hq : q < 4) (h6 : wn_A a6 (fun n => if n = q then 1 else 0)) (h7 : a7 (4 * q) = nI id) (H : post (nI (4 * q))) : wpX_placeOf post (ph, lf, ck, sc, di, a1, a2, a3, a4, a5, a6, a7, a8, a9, a10, a11, a12, a13, a14, a15, a16, a17, a18, a19, a20, a21, a22, a23, a24, a25) (nI id) := by
  unfold wpX_placeOf
  dsimp only
  refine pk_loop (σ := Unit) (fun n i _ => wX_placeOf_2 post (nI id) ph lf ck sc di a1 a2 a3 a4 a5 a6 a7 a8 a9 a10 a11 a12 a13 a14 a15 a16 a17 a18 a19 a20 a21 a22 a23 a24 a25 n (nI i)) (fun _ _ => True) q 0 () (by omega) trivial ?_ ?_
  · intro n _ _
    have e : (nI q).toNatClampNeg = q := nI_clamp (by omega)
    have ea : (4 : Int32) * nI q + 0 = nI (4 * q) := by
      show nI 4 * nI q + nI 0 = _
      rw [pk_mul, nI_add]
      rfl
    have e4 : (nI (4 * q)).toNatClampNeg = 4 * q := nI_clamp (by omega)
    refine pk_le 4 q (fun z => absurd z (by omega)) (fun _ => ⟨1, ?_⟩)
    unfold wX_placeOf_9
    rw [ea, e, e4, h7, wn_Ag h6 q hq, if_pos rfl]
    exact ⟨vp_in_nI (by omega) (by decide), br_f (by decide) ⟨vp_in_nI (by omega) (by decide), br_t rfl H⟩⟩
  · intro n i _ hi _ hk
    have e : (nI i).toNatClampNeg = i := nI_clamp (by omega)
    refine pk_le 4 i (fun z => absurd z (by omega)) (fun _ => ⟨1, ?_⟩)
    unfold wX_placeOf_9
    rw [e, wn_Ag h6 i (by omega), if_neg (show ¬ i = q by omega)]
    exact ⟨vp_in_nI (by omega) (by decide), br_t (by decide) (nm_r (nI_1 i) (hk () trivial))⟩
theorem wn_cutTo {post : Int64 → Prop} {len d : Nat} (hl : len ≤ 8) (hd : d < 2 ^ 64) (H : post (lN (d % 2 ^ (8 * len)))) : wpX_cutTo post () (nI len) (lN d) := by
  unfold wpX_cutTo
  refine pk_eq len 8 (fun z => ?_) (fun z => ?_)
  · rw [z, Nat.mod_eq_of_lt hd] at H
    exact H
  · have e8 : (8 : Int32) * nI len = nI (8 * len) := pk_mul 8 len
    have e1 : (1 : Int64) <<< ((nI (8 * len)).toInt64 &&& 63) = lN (2 ^ (8 * len)) := by
      have := wb_shl 1 (k := 8 * len) (by omega)
      rw [Nat.one_mul] at this
      exact this
    have hp : 1 ≤ 2 ^ (8 * len) := Nat.one_le_two_pow
    have e2 : lN (2 ^ (8 * len)) - 1 = lN (2 ^ (8 * len) - 1) := lN_sub (b := 1) hp
    rw [e8, e1, e2, wb_mask hd (by omega)]
    exact H
/-- a frame is posted where none waits -/
theorem wn_post {post : Int32 → St2 → Prop} {ph lf ck sc di : Int32} {a1 a2 a3 a4 a5 a6 a7 a8 a10 a11 a12 a14 a15 a16 a17 a18 a19 a20 a21 a22 a24 a25 : Nat → Int32} {a9 a13 a23 : Nat → Int64} {n id len d : Nat} (hn : n < 4) (hid : id < 2048) (hl : len ≤ 8) (hd : d < 2 ^ 64) (h6 : ∀ n, n < 4 → a6 n = 0) (H : post 1 (ph, lf, ck, sc, di, a1, a2, a3, a4, a5, (upd a6 n 1), (upd a7 (4 * n) (nI id)), (upd a8 (4 * n) (nI len)), (vp_updL a9 (4 * n) (lN (d % 2 ^ (8 * len)))), a10, a11, a12, a13, a14, a15, a16, a17, a18, a19, a20, a21, a22, a23, a24, a25)) : wpX_post post (ph, lf, ck, sc, di, a1, a2, a3, a4, a5, a6, a7, a8, a9, a10, a11, a12, a13, a14, a15, a16, a17, a18, a19, a20, a21, a22, a23, a24, a25) (nI (2048 * n + id)) (nI len) (lN d) := by
  have e : (nI n).toNatClampNeg = n := nI_clamp (by omega)
  have e4 : (nI (4 * n)).toNatClampNeg = 4 * n := nI_clamp (by omega)
  have iv : vp_in (nI n) 5 := vp_in_nI (by omega) (by decide)
  have iw : vp_in (nI (4 * n)) 20 := vp_in_nI (by omega) (by decide)
  have ed : nI (2048 * n + id) / 2048 = nI n := by
    have := pk_div (a := 2048 * n + id) (d := 2048) (by omega) (by omega) (by omega)
    rw [show (2048 * n + id) / 2048 = n by omega] at this
    exact this
  have er : nI (2048 * n + id) - nI n * 2048 = nI id := by
    have a : nI n * 2048 = nI (2048 * n) := by
      have := pk_mul n 2048
      rw [Nat.mul_comm n 2048] at this
      exact this
    rw [a, pk_sub (by omega)]
    congr 1
    omega
  have ea : (4 : Int32) * nI n + 0 = nI (4 * n) := by
    show nI 4 * nI n + nI 0 = _
    rw [pk_mul, nI_add]
    rfl
  unfold wpX_post
  dsimp only
  rw [ed, er]
  refine pk_lt (2048 * n + id) 0 (fun z => absurd z (by omega)) (fun _ => pk_le 8192 (2048 * n + id) (fun z => absurd z (by omega)) (fun _ => pk_lt len 0 (fun z => absurd z (by omega)) (fun _ => pk_le len 8 (fun _ => ⟨by decide, nm_e ⟨by decide, nm_e (wn_place0 h6 (br_t (by decide) ?_))⟩⟩) (fun z => absurd z (by omega)))))
  rw [e, h6 n hn, ea]
  refine ⟨iv, br_t (by decide) ⟨iv, ?_⟩⟩
  unfold wpX_setFrame
  dsimp only
  rw [e4, h6 n hn]
  refine ⟨iw, nm_e ⟨iw, nm_e (wn_cutTo hl hd ⟨iw, nm_e ⟨iv, iv, nm_e ⟨iv, ?_⟩⟩⟩)⟩⟩
  rw [pk_us]
  exact H
/-- the frame that waits in q is taken out; nothing is under way -/
theorem wn_cancel {post : Int32 → St2 → Prop} {ph lf ck sc di : Int32} {a1 a2 a3 a4 a5 a6 a7 a8 a10 a11 a12 a14 a15 a16 a17 a18 a19 a20 a21 a22 a24 a25 : Nat → Int32} {a9 a13 a23 : Nat → Int64} {q id : Nat} (hq : q < 4) (hid : id < 2048) (hp : ¬ ph = 1) (h6 : wn_A a6 (fun n => if n = q then 1 else 0)) (h7 : a7 (4 * q) = nI id) (H : ∀ b15 b16 : Nat → Int32, post (nI q) (ph, lf, ck, sc, di, a1, a2, a3, a4, a5, (upd a6 q 0), a7, a8, a9, a10, a11, a12, a13, a14, b15, b16, a17, a18, a19, a20, a21, a22, a23, a24, a25)) : wpX_cancel post (ph, lf, ck, sc, di, a1, a2, a3, a4, a5, a6, a7, a8, a9, a10, a11, a12, a13, a14, a15, a16, a17, a18, a19, a20, a21, a22, a23, a24, a25) (nI id) := by
  have e : (nI q).toNatClampNeg = q := nI_clamp (by omega)
  have iv : vp_in (nI q) 5 := vp_in_nI (by omega) (by decide)
  have h6q : a6 q = 1 := by rw [wn_Ag h6 q hq, if_pos rfl]; rfl
  have ed : nI (4 * q) / 4 = nI q := by
    have := pk_div (a := 4 * q) (d := 4) (by omega) (by omega) (by omega)
    rw [show 4 * q / 4 = q by omega] at this
    exact this
  have er : nI (4 * q) - nI q * 4 = 0 := by
    have a : nI q * 4 = nI (4 * q) := by
      have := pk_mul q 4
      rw [Nat.mul_comm q 4] at this
      exact this
    rw [a, pk_sub (by omega), Nat.sub_self]
    rfl
  have ne : ¬ (-2 : Int32) = nI id := by
    intro z
    have := congrArg Int32.toInt z
    rw [nI_toInt (by omega)] at this
    have h2 : (-2 : Int32).toInt = -2 := by decide
    rw [h2] at this
    omega
  unfold wpX_cancel
  dsimp only
  refine wn_isEl hid (br_f (by decide) (wn_placeQ hq h6 h7 (br_t ?_ (wn_gUnder hp (br_f ne ⟨by decide, ?_⟩)))))
  · exact nI_pos' (by omega)
  · rw [ed, er]
    refine nm_e ⟨by decide, nm_e ?_⟩
    rw [e]
    refine ⟨iv, br_c (fun _ => ⟨iv, br_c (fun _ => ⟨iv, nm_e ?_⟩) (fun _ => ?_)⟩) (fun _ => ?_)⟩
    · unfold wX_cancel_70
      exact wn_remove hq h6q (fun b16 => H _ b16)
    · unfold wX_cancel_70
      exact wn_remove hq h6q (fun b16 => H _ b16)
    · unfold wX_cancel_70
      exact wn_remove hq h6q (fun b16 => H _ b16)
/-- the constructor -/
theorem wn_init {post : St2 → Prop} {mc ms : Nat} (h1 : 25 ≤ mc) (h2 : 220 ≤ ms) (H : ∀ b1 : Nat → Int32, (∀ n, n < 4 → b1 n = 1) → post (0, 0, 0, 0, 0, b1, (fun _ => 0), (fun _ => 0), (fun _ => 0), (fun _ => 0), (fun _ => 0), (fun _ => 0), (fun _ => 0), (fun _ => 0), (fun _ => 0), (fun _ => 0), (fun _ => 0), (fun _ => 0), (fun _ => 0), (fun _ => 0), (fun _ => 0), (fun _ => 0), (fun _ => 0), (fun _ => 0), (fun _ => 0), (fun _ => 0), (fun _ => 0), (fun _ => 0), (fun _ => 0), (fun _ => 0))) : wpX_init post mc ms (0, 0, 0, 0, 0) := by
  unfold wpX_init
  dsimp only
  refine ⟨by omega, by omega, by omega, by omega, by omega, by omega, by omega, by omega, by omega, by omega, by omega, by omega, by omega, by omega, by omega, by omega, by omega, by omega, by omega, by omega, by omega, by omega, by omega, by omega, by omega, by omega, by omega, by omega, by omega, by omega, by omega, by omega, by omega, by omega, by omega, by omega, by omega, by omega, by omega, by omega, by omega, by omega, by omega, by omega, by omega, by omega, by omega, by omega, by omega, by omega, ?_⟩
  refine pk_loop (fun n i b => wX_init_187 post mc ms 25 220 0 0 0 0 0 n (nI i) b (fun _ => 0) (fun _ => 0) (fun _ => 0) (fun _ => 0) (fun _ => 0) (fun _ => 0) (fun _ => 0) (fun _ => 0) (fun _ => 0) (fun _ => 0) (fun _ => 0) (fun _ => 0) (fun _ => 0) (fun _ => 0) (fun _ => 0) (fun _ => 0) (fun _ => 0) (fun _ => 0) (fun _ => 0) (fun _ => 0) (fun _ => 0) (fun _ => 0) (fun _ => 0) (fun _ => 0)) (fun i b => ∀ n, n < i → b n = 1) 4 0 (fun _ => 0) (by omega) (fun _ z => absurd z (by omega)) ?_ ?_
  · intro n b hb
    exact pk_le 4 4 (fun _ => H b hb) (fun z => absurd z (by omega))
  · intro n i b hi hb hk
    have e : (nI i).toNatClampNeg = i := nI_clamp (by omega)
    show wX_init_187 post mc ms 25 220 0 0 0 0 0 (n + 1) (nI i) b (fun _ => 0) (fun _ => 0) (fun _ => 0) (fun _ => 0) (fun _ => 0) (fun _ => 0) (fun _ => 0) (fun _ => 0) (fun _ => 0) (fun _ => 0) (fun _ => 0) (fun _ => 0) (fun _ => 0) (fun _ => 0) (fun _ => 0) (fun _ => 0) (fun _ => 0) (fun _ => 0) (fun _ => 0) (fun _ => 0) (fun _ => 0) (fun _ => 0) (fun _ => 0) (fun _ => 0)
    unfold wX_init_187
    rw [e]
    refine pk_le 4 i (fun z => absurd z (by omega)) (fun _ => ⟨vp_in_nI hi (by decide), nm_e (nm_r (nI_1 i) (hk _ (fun m hm => ?_)))⟩)
    by_cases em : m = i
    · rw [em, pk_us]
    · rw [pk_un em]
      exact hb m (by omega)
end
section
/-! ===== runs ===== -/
theorem wn_runT {post : Int32 → St2 → Prop} {ph lf ck sc di : Int32} {a1 a2 a3 a4 a5 a6 a7 a8 a10 a11 a12 a14 a15 a16 a17 a18 a19 a20 a21 a22 a24 a25 : Nat → Int32} {a9 a13 a23 : Nat → Int64} {N t t' : Nat} {r : Int32} (R : Nat → St2 → Prop) (hN : N ≤ 2000) (h0 : R 0 (ph, lf, ck, sc, di, a1, a2, a3, a4, a5, a6, a7, a8, a9, a10, a11, a12, a13, a14, a15, a16, a17, a18, a19, a20, a21, a22, a23, a24, a25)) (hst : ∀ i, i < N → wn_ok (R i) (R (i + 1))) (hsc : sc = nI t) (hsc' : ∀ u, R N u → u.2.2.2.1 = nI t') (hr : nI t' - nI t = r) (H : ∀ (ph lf ck sc di : Int32) (a1 a2 a3 a4 a5 a6 a7 a8 : Nat → Int32) (a9 : Nat → Int64) (a10 a11 a12 : Nat → Int32) (a13 : Nat → Int64) (a14 a15 a16 a17 a18 a19 a20 a21 a22 : Nat → Int32) (a23 : Nat → Int64) (a24 a25 : Nat → Int32), R N (ph, lf, ck, sc, di, a1, a2, a3, a4, a5, a6, a7, a8, a9, a10, a11, a12, a13, a14, a15, a16, a17, a18, a19, a20, a21, a22, a23, a24, a25) → post r (ph, lf, ck, sc, di, a1, a2, a3, a4, a5, a6, a7, a8, a9, a10, a11, a12, a13, a14, a15, a16, a17, a18, a19, a20, a21, a22, a23, a24, a25)) : wpX_run post (ph, lf, ck, sc, di, a1, a2, a3, a4, a5, a6, a7, a8, a9, a10, a11, a12, a13, a14, a15, a16, a17, a18, a19, a20, a21, a22, a23, a24, a25) (nI N) := by
  refine wn_run R hN h0 hst (fun u hu => ?_)
  rw [hsc' u hu, hsc, hr]
  exact H _ _ _ _ _ _ _ _ _ _ _ _ _ _ _ _ _ _ _ _ _ _ _ _ _ _ _ _ _ _ hu
theorem wn_I_sc {u : St2} {id len d s fr : Nat} {on sd rc ic : Nat → Nat} {wc p l c t g : Nat} (h : wn_I id len d s fr wc on sd rc ic p l c t g u) : u.2.2.2.1 = nI t := by
  obtain ⟨ph, lf, ck, sc, di, a1, a2, a3, a4, a5, a6, a7, a8, a9, a10, a11, a12, a13, a14, a15, a16, a17, a18, a19, a20, a21, a22, a23, a24, a25⟩ := u
  exact h.2.2.2.1
theorem wn_G_sc {u : St2} {id len d s fr : Nat} {on sd rc ic : Nat → Nat} {j c t g : Nat} (h : wn_G id len d s fr on sd rc ic j c t g u) : u.2.2.2.1 = nI t := by
  rcases h with ⟨_, h⟩ | ⟨_, h⟩
  · exact wn_I_sc h
  · obtain ⟨ph, lf, ck, sc, di, a1, a2, a3, a4, a5, a6, a7, a8, a9, a10, a11, a12, a13, a14, a15, a16, a17, a18, a19, a20, a21, a22, a23, a24, a25⟩ := u
    exact h.2.2.1
theorem wn_ok_m {P P1 P' P1' : St2 → Prop} (h1 : ∀ u, P1 u → P u) (h2 : ∀ u, P' u → P1' u) (h : wn_ok P P') : wn_ok P1 P1' :=
  fun post J x1 x2 i ph lf ck sc di a1 a2 a3 a4 a5 a6 a7 a8 a9 a10 a11 a12 a13 a14 a15 a16 a17 a18 a19 a20 a21 a22 a23 a24 a25 hP hk => h post J x1 x2 i ph lf ck sc di a1 a2 a3 a4 a5 a6 a7 a8 a9 a10 a11 a12 a13 a14 a15 a16 a17 a18 a19 a20 a21 a22 a23 a24 a25 (h1 _ hP) (fun ph lf ck sc di a1 a2 a3 a4 a5 a6 a7 a8 a9 a10 a11 a12 a13 a14 a15 a16 a17 a18 a19 a20 a21 a22 a23 a24 a25 h' => hk ph lf ck sc di a1 a2 a3 a4 a5 a6 a7 a8 a9 a10 a11 a12 a13 a14 a15 a16 a17 a18 a19 a20 a21 a22 a23 a24 a25 (h2 _ h'))
/-- complaint and pause: the bits from 0 to 17 -/
def wn_pp (τ : Nat) : Nat := if τ < 14 then 2 else if τ < 17 then 3 else 0
def wn_pq (τ : Nat) : Nat := if τ < 14 then 14 - τ else 17 - τ
theorem wn_ppq : ∀ τ, τ < 17 → (wn_pq τ < 2147483648 ∧ 1 ≤ wn_pq τ ∧ (wn_pp τ = 2 ∨ wn_pp τ = 3) ∧ ((1 < wn_pq τ ∧ wn_pp (τ + 1) = wn_pp τ ∧ wn_pq (τ + 1) = wn_pq τ - 1) ∨ (wn_pq τ = 1 ∧ wn_pp τ = 2 ∧ wn_pp (τ + 1) = 3 ∧ wn_pq (τ + 1) = 3) ∨ (wn_pq τ = 1 ∧ wn_pp τ = 3 ∧ wn_pp (τ + 1) = 0 ∧ wn_pq (τ + 1) = 0))) := by decide +kernel
theorem wn_runP {post : Int32 → St2 → Prop} {ph lf ck sc di : Int32} {a1 a2 a3 a4 a5 a6 a7 a8 a10 a11 a12 a14 a15 a16 a17 a18 a19 a20 a21 a22 a24 a25 : Nat → Int32} {a9 a13 a23 : Nat → Int64} {id len d s fr : Nat} {on sd rc ic : Nat → Nat} {wc : Nat} (τ N p' l' : Nat) {p l c t g : Nat} (h : τ + N ≤ 17) (e1 : wn_pp τ = p) (e2 : wn_pq τ = l) (e3 : wn_pp (τ + N) = p') (e4 : wn_pq (τ + N) = l') (hg : g < 2 ^ 31) (hI : wn_I id len d s fr wc on sd rc ic p l c t g (ph, lf, ck, sc, di, a1, a2, a3, a4, a5, a6, a7, a8, a9, a10, a11, a12, a13, a14, a15, a16, a17, a18, a19, a20, a21, a22, a23, a24, a25)) (H : ∀ (ph lf ck sc di : Int32) (a1 a2 a3 a4 a5 a6 a7 a8 : Nat → Int32) (a9 : Nat → Int64) (a10 a11 a12 : Nat → Int32) (a13 : Nat → Int64) (a14 a15 a16 a17 a18 a19 a20 a21 a22 : Nat → Int32) (a23 : Nat → Int64) (a24 a25 : Nat → Int32), wn_I id len d s fr wc on sd rc ic p' l' (c + N) t (g - N) (ph, lf, ck, sc, di, a1, a2, a3, a4, a5, a6, a7, a8, a9, a10, a11, a12, a13, a14, a15, a16, a17, a18, a19, a20, a21, a22, a23, a24, a25) → post 0 (ph, lf, ck, sc, di, a1, a2, a3, a4, a5, a6, a7, a8, a9, a10, a11, a12, a13, a14, a15, a16, a17, a18, a19, a20, a21, a22, a23, a24, a25)) : wpX_run post (ph, lf, ck, sc, di, a1, a2, a3, a4, a5, a6, a7, a8, a9, a10, a11, a12, a13, a14, a15, a16, a17, a18, a19, a20, a21, a22, a23, a24, a25) (nI N) := by
  subst e1 e2 e3 e4
  refine wn_runT (t := t) (t' := t) (fun i => wn_I id len d s fr wc on sd rc ic (wn_pp (τ + i)) (wn_pq (τ + i)) (c + i) t (g - i)) (by omega) hI (fun i hi => ?_) hI.2.2.2.1 (fun u hu => wn_I_sc hu) (Int32.sub_self _) H
  obtain ⟨k1, k2, k3, k4⟩ := wn_ppq (τ + i) (by omega)
  exact wn_sW (by omega) k1 k2 k3 k4
theorem wn_put (id len d : Nat) (hl : len ≤ 8) : 34 ≤ wn_o id len d (34 + 8 * len) ∧ wn_o id len d (34 + 8 * len) ≤ 196 ∧ 12 ≤ wn_o id len d 12 ∧ wn_o id len d 12 ≤ 24 ∧ wn_o id len d 12 + 22 ≤ wn_o id len d (34 + 8 * len) := by
  have a := wn_o_b id len d (34 + 8 * len)
  have b := wn_o_b id len d 12
  have c := wn_o_lt id len d 12 (22 + 8 * len)
  rw [show 12 + (22 + 8 * len) = 34 + 8 * len by omega] at c
  omega
theorem wn_sG {id len d s fr : Nat} {on sd rc ic : Nat → Nat} {j c t g : Nat} (hv : wn_V id len d s) (hB : wn_B s on sd rc ic) (hj : j + 1 < wn_o id len d (34 + 8 * len) + 10) (hg : g < 2 ^ 31) (hn : ¬ (g = 1 ∧ wn_ct len (wn_W id len d j))) : wn_ok (wn_G id len d s fr on sd rc ic j c t g) (wn_G id len d s fr on sd rc ic (j + 1) (c + 1) t (g - 1)) := by
  have hp := wn_put id len d hv.2.2.1
  exact wn_sX hv hB (by omega) (by omega) hg (fun z => absurd z hn) (fun _ _ u h => h) (fun _ z => absurd z (by omega))
theorem wn_runG {post : Int32 → St2 → Prop} {ph lf ck sc di : Int32} {a1 a2 a3 a4 a5 a6 a7 a8 a10 a11 a12 a14 a15 a16 a17 a18 a19 a20 a21 a22 a24 a25 : Nat → Int32} {a9 a13 a23 : Nat → Int64} {id len d s fr : Nat} {on sd rc ic : Nat → Nat} {j c t g : Nat} (k : Nat) (hv : wn_V id len d s) (hB : wn_B s on sd rc ic) (hjk : j + k < wn_o id len d (34 + 8 * len) + 10) (hg : g < 2 ^ 31) (hn : ∀ i, i < k → ¬ (g - i = 1 ∧ wn_ct len (wn_W id len d (j + i)))) (hG : wn_G id len d s fr on sd rc ic j c t g (ph, lf, ck, sc, di, a1, a2, a3, a4, a5, a6, a7, a8, a9, a10, a11, a12, a13, a14, a15, a16, a17, a18, a19, a20, a21, a22, a23, a24, a25)) (H : ∀ (ph lf ck sc di : Int32) (a1 a2 a3 a4 a5 a6 a7 a8 : Nat → Int32) (a9 : Nat → Int64) (a10 a11 a12 : Nat → Int32) (a13 : Nat → Int64) (a14 a15 a16 a17 a18 a19 a20 a21 a22 : Nat → Int32) (a23 : Nat → Int64) (a24 a25 : Nat → Int32), wn_G id len d s fr on sd rc ic (j + k) (c + k) t (g - k) (ph, lf, ck, sc, di, a1, a2, a3, a4, a5, a6, a7, a8, a9, a10, a11, a12, a13, a14, a15, a16, a17, a18, a19, a20, a21, a22, a23, a24, a25) → post 0 (ph, lf, ck, sc, di, a1, a2, a3, a4, a5, a6, a7, a8, a9, a10, a11, a12, a13, a14, a15, a16, a17, a18, a19, a20, a21, a22, a23, a24, a25)) : wpX_run post (ph, lf, ck, sc, di, a1, a2, a3, a4, a5, a6, a7, a8, a9, a10, a11, a12, a13, a14, a15, a16, a17, a18, a19, a20, a21, a22, a23, a24, a25) (nI k) := by
  have hp := wn_put id len d hv.2.2.1
  exact wn_runT (t := t) (t' := t) (fun i => wn_G id len d s fr on sd rc ic (j + i) (c + i) t (g - i)) (by omega) hG (fun i hi => wn_sG hv hB (by omega) (by omega) (hn i hi)) (wn_G_sc hG) (fun u hu => wn_G_sc hu) (Int32.sub_self _) H
/-- k bits of a frame, and one that ends it -/
theorem wn_runX {post : Int32 → St2 → Prop} {ph lf ck sc di : Int32} {a1 a2 a3 a4 a5 a6 a7 a8 a10 a11 a12 a14 a15 a16 a17 a18 a19 a20 a21 a22 a24 a25 : Nat → Int32} {a9 a13 a23 : Nat → Int64} {id len d s fr : Nat} {on sd rc ic : Nat → Nat} {P' : St2 → Prop} {j c t t' g : Nat} {r : Int32} (k : Nat) (hv : wn_V id len d s) (hB : wn_B s on sd rc ic) (hjk : j + k < wn_o id len d (34 + 8 * len) + 10) (hg : g < 2 ^ 31) (hn : ∀ i, i < k → ¬ (g - i = 1 ∧ wn_ct len (wn_W id len d (j + i)))) (hG : wn_G id len d s fr on sd rc ic j c t g (ph, lf, ck, sc, di, a1, a2, a3, a4, a5, a6, a7, a8, a9, a10, a11, a12, a13, a14, a15, a16, a17, a18, a19, a20, a21, a22, a23, a24, a25))
    (hl : wn_ok (wn_G id len d s fr on sd rc ic (j + k) (c + k) t (g - k)) P') (hP : ∀ u, P' u → u.2.2.2.1 = nI t') (hr : nI t' - nI t = r) (H : ∀ (ph lf ck sc di : Int32) (a1 a2 a3 a4 a5 a6 a7 a8 : Nat → Int32) (a9 : Nat → Int64) (a10 a11 a12 : Nat → Int32) (a13 : Nat → Int64) (a14 a15 a16 a17 a18 a19 a20 a21 a22 : Nat → Int32) (a23 : Nat → Int64) (a24 a25 : Nat → Int32), P' (ph, lf, ck, sc, di, a1, a2, a3, a4, a5, a6, a7, a8, a9, a10, a11, a12, a13, a14, a15, a16, a17, a18, a19, a20, a21, a22, a23, a24, a25) → post r (ph, lf, ck, sc, di, a1, a2, a3, a4, a5, a6, a7, a8, a9, a10, a11, a12, a13, a14, a15, a16, a17, a18, a19, a20, a21, a22, a23, a24, a25)) : wpX_run post (ph, lf, ck, sc, di, a1, a2, a3, a4, a5, a6, a7, a8, a9, a10, a11, a12, a13, a14, a15, a16, a17, a18, a19, a20, a21, a22, a23, a24, a25) (nI (k + 1)) := by
  have hp := wn_put id len d hv.2.2.1
  refine wn_runT (t := t) (t' := t') (fun i u => (i ≤ k ∧ wn_G id len d s fr on sd rc ic (j + i) (c + i) t (g - i) u) ∨ (k < i ∧ P' u)) (by omega) (Or.inl ⟨Nat.zero_le _, hG⟩) (fun i hi => ?_) (wn_G_sc hG) (fun u hu => ?_) hr ?_
  · by_cases e : i = k
    · subst e
      refine wn_ok_m (fun u h => ?_) (fun u h => ?_) hl
      · rcases h with ⟨_, h⟩ | ⟨z, _⟩
        · exact h
        · exact absurd z (by omega)
      · exact Or.inr ⟨by omega, h⟩
    · refine wn_ok_m (fun u h => ?_) (fun u h => ?_) (wn_sG (fr := fr) (j := j + i) (c := c + i) (t := t) (g := g - i) hv hB (by omega) (by omega) (hn i (by omega)))
      · rcases h with ⟨_, h⟩ | ⟨z, _⟩
        · exact h
        · exact absurd z (by omega)
      · exact Or.inl ⟨by omega, h⟩
  · rcases hu with ⟨z, _⟩ | ⟨_, h⟩
    · exact absurd z (by omega)
    · exact hP u h
  · intro ph lf ck sc di a1 a2 a3 a4 a5 a6 a7 a8 a9 a10 a11 a12 a13 a14 a15 a16 a17 a18 a19 a20 a21 a22 a23 a24 a25 hu
    rcases hu with ⟨z, _⟩ | ⟨_, h⟩
    · exact absurd z (by omega)
    · exact H ph lf ck sc di a1 a2 a3 a4 a5 a6 a7 a8 a9 a10 a11 a12 a13 a14 a15 a16 a17 a18 a19 a20 a21 a22 a23 a24 a25 h
theorem wn_1s (t : Nat) : nI (t + 1) - nI t = 1 := by
  rw [pk_sub (by omega), show t + 1 - t = 1 by omega]
  rfl
/-- the last bit of a frame that is sent -/
theorem wn_runD {post : Int32 → St2 → Prop} {ph lf ck sc di : Int32} {a1 a2 a3 a4 a5 a6 a7 a8 a10 a11 a12 a14 a15 a16 a17 a18 a19 a20 a21 a22 a24 a25 : Nat → Int32} {a9 a13 a23 : Nat → Int64} {id len d s fr : Nat} {on sd rc ic : Nat → Nat} {j c t g : Nat} (k : Nat) (hv : wn_V id len d s) (hB : wn_B s on sd rc ic) (hjk : j + k = wn_o id len d (34 + 8 * len) + 9) (hg : g < 2 ^ 31) (hn : ∀ i, i < k + 1 → ¬ (g - i = 1 ∧ wn_ct len (wn_W id len d (j + i)))) (hG : wn_G id len d s fr on sd rc ic j c t g (ph, lf, ck, sc, di, a1, a2, a3, a4, a5, a6, a7, a8, a9, a10, a11, a12, a13, a14, a15, a16, a17, a18, a19, a20, a21, a22, a23, a24, a25))
    (H : ∀ (ph lf ck sc di : Int32) (a1 a2 a3 a4 a5 a6 a7 a8 : Nat → Int32) (a9 : Nat → Int64) (a10 a11 a12 : Nat → Int32) (a13 : Nat → Int64) (a14 a15 a16 a17 a18 a19 a20 a21 a22 : Nat → Int32) (a23 : Nat → Int64) (a24 a25 : Nat → Int32), wn_I id len d s fr 0 on (wn_sdD s sd) (wn_rcD s rc) (wn_icD s fr ic) 3 3 (c + k + 1) (t + 1) (g - k - 1) (ph, lf, ck, sc, di, a1, a2, a3, a4, a5, a6, a7, a8, a9, a10, a11, a12, a13, a14, a15, a16, a17, a18, a19, a20, a21, a22, a23, a24, a25) → post 1 (ph, lf, ck, sc, di, a1, a2, a3, a4, a5, a6, a7, a8, a9, a10, a11, a12, a13, a14, a15, a16, a17, a18, a19, a20, a21, a22, a23, a24, a25)) : wpX_run post (ph, lf, ck, sc, di, a1, a2, a3, a4, a5, a6, a7, a8, a9, a10, a11, a12, a13, a14, a15, a16, a17, a18, a19, a20, a21, a22, a23, a24, a25) (nI (k + 1)) := by
  have hp := wn_put id len d hv.2.2.1
  refine wn_runX (t' := t + 1) k hv hB (by omega) hg (fun i hi => hn i (by omega)) hG (P' := wn_I id len d s fr 0 on (wn_sdD s sd) (wn_rcD s rc) (wn_icD s fr ic) 3 3 (c + k + 1) (t + 1) (g - k - 1)) ?_ (fun u hu => wn_I_sc hu) (wn_1s t) H
  exact wn_sX hv hB (by omega) (by omega) (by omega) (fun z => absurd z (hn k (by omega))) (fun _ z => absurd (by omega) z) (fun _ _ u h => h)
/-- the bit that breaks a frame off -/
theorem wn_runB {post : Int32 → St2 → Prop} {ph lf ck sc di : Int32} {a1 a2 a3 a4 a5 a6 a7 a8 a10 a11 a12 a14 a15 a16 a17 a18 a19 a20 a21 a22 a24 a25 : Nat → Int32} {a9 a13 a23 : Nat → Int64} {id len d s fr : Nat} {on sd rc ic : Nat → Nat} {j c t g : Nat} (k : Nat) (hv : wn_V id len d s) (hB : wn_B s on sd rc ic) (hjk : j + k < wn_o id len d (34 + 8 * len) + 10) (hg : g = k + 1) (hg2 : g < 2 ^ 31) (hc : wn_ct len (wn_W id len d (j + k))) (hG : wn_G id len d s fr on sd rc ic j c t g (ph, lf, ck, sc, di, a1, a2, a3, a4, a5, a6, a7, a8, a9, a10, a11, a12, a13, a14, a15, a16, a17, a18, a19, a20, a21, a22, a23, a24, a25))
    (H : ∀ (ph lf ck sc di : Int32) (a1 a2 a3 a4 a5 a6 a7 a8 : Nat → Int32) (a9 : Nat → Int64) (a10 a11 a12 : Nat → Int32) (a13 : Nat → Int64) (a14 a15 a16 a17 a18 a19 a20 a21 a22 : Nat → Int32) (a23 : Nat → Int64) (a24 a25 : Nat → Int32), wn_I id len d s fr 1 (wn_onB s on sd) (wn_sdB s sd) (wn_rcB s rc) ic 2 14 (c + k + 1) t 0 (ph, lf, ck, sc, di, a1, a2, a3, a4, a5, a6, a7, a8, a9, a10, a11, a12, a13, a14, a15, a16, a17, a18, a19, a20, a21, a22, a23, a24, a25) → post 0 (ph, lf, ck, sc, di, a1, a2, a3, a4, a5, a6, a7, a8, a9, a10, a11, a12, a13, a14, a15, a16, a17, a18, a19, a20, a21, a22, a23, a24, a25)) : wpX_run post (ph, lf, ck, sc, di, a1, a2, a3, a4, a5, a6, a7, a8, a9, a10, a11, a12, a13, a14, a15, a16, a17, a18, a19, a20, a21, a22, a23, a24, a25) (nI (k + 1)) := by
  have hp := wn_put id len d hv.2.2.1
  refine wn_runX (t' := t) k hv hB (by omega) hg2 (fun i hi z => absurd z.1 (by omega)) hG (P' := wn_I id len d s fr 1 (wn_onB s on sd) (wn_sdB s sd) (wn_rcB s rc) ic 2 14 (c + k + 1) t 0) ?_ (fun u hu => wn_I_sc hu) (Int32.sub_self _) H
  refine wn_sX hv hB (by omega) (by omega) (by omega) (fun _ u h => ?_) (fun z => absurd ⟨by omega, hc⟩ z) (fun z => absurd ⟨by omega, hc⟩ z)
  rw [show g - k - 1 = 0 by omega] at h
  exact h
/-- nobody on has a frame -/
theorem wn_runI {post : Int32 → St2 → Prop} {ph lf ck sc di : Int32} {a1 a2 a3 a4 a5 a6 a7 a8 a10 a11 a12 a14 a15 a16 a17 a18 a19 a20 a21 a22 a24 a25 : Nat → Int32} {a9 a13 a23 : Nat → Int64} {id len d s fr : Nat} {on sd rc ic : Nat → Nat} {l c t : Nat} (N : Nat) (hN : N ≤ 2000) (hs : s < 4) (h : on s = 0) (hI : wn_I id len d s fr 1 on sd rc ic 0 l c t 0 (ph, lf, ck, sc, di, a1, a2, a3, a4, a5, a6, a7, a8, a9, a10, a11, a12, a13, a14, a15, a16, a17, a18, a19, a20, a21, a22, a23, a24, a25)) (H : ∀ (ph lf ck sc di : Int32) (a1 a2 a3 a4 a5 a6 a7 a8 : Nat → Int32) (a9 : Nat → Int64) (a10 a11 a12 : Nat → Int32) (a13 : Nat → Int64) (a14 a15 a16 a17 a18 a19 a20 a21 a22 : Nat → Int32) (a23 : Nat → Int64) (a24 a25 : Nat → Int32), wn_I id len d s fr 1 on sd rc ic 0 l (c + N) t 0 (ph, lf, ck, sc, di, a1, a2, a3, a4, a5, a6, a7, a8, a9, a10, a11, a12, a13, a14, a15, a16, a17, a18, a19, a20, a21, a22, a23, a24, a25) → post 0 (ph, lf, ck, sc, di, a1, a2, a3, a4, a5, a6, a7, a8, a9, a10, a11, a12, a13, a14, a15, a16, a17, a18, a19, a20, a21, a22, a23, a24, a25)) : wpX_run post (ph, lf, ck, sc, di, a1, a2, a3, a4, a5, a6, a7, a8, a9, a10, a11, a12, a13, a14, a15, a16, a17, a18, a19, a20, a21, a22, a23, a24, a25) (nI N) :=
  wn_runT (t := t) (t' := t) (fun i => wn_I id len d s fr 1 on sd rc ic 0 l (c + i) t 0) hN hI (fun i hi => wn_sI hs (by omega) h) hI.2.2.2.1 (fun u hu => wn_I_sc hu) (Int32.sub_self _) H
/-! changes of the slow state between runs -/
theorem wn_I_c {u : St2} {id len d s fr : Nat} {on sd rc ic : Nat → Nat} {on' sd' rc' ic' : Nat → Nat} {wc p l c t g : Nat} (e1 : ∀ n, n < 4 → on n = on' n) (e2 : ∀ n, n < 4 → sd n = sd' n) (e3 : ∀ n, n < 4 → rc n = rc' n) (e4 : ∀ n, n < 4 → ic n = ic' n) (h : wn_I id len d s fr wc on sd rc ic p l c t g u) : wn_I id len d s fr wc on' sd' rc' ic' p l c t g u := by
  obtain ⟨ph, lf, ck, sc, di, a1, a2, a3, a4, a5, a6, a7, a8, a9, a10, a11, a12, a13, a14, a15, a16, a17, a18, a19, a20, a21, a22, a23, a24, a25⟩ := u
  obtain ⟨p1, p2, p3, p4, p5, q1, q2, q3, q4, q5, q6, q7, q8⟩ := h
  exact ⟨p1, p2, p3, p4, p5, wn_A_c q1 e1, wn_A_c q2 e2, wn_A_c q3 e3, q4, q5, q6, wn_A_c q7 e4, q8⟩
theorem wn_A_u {a : Nat → Int32} {f : Nat → Nat} {n v : Nat} (h : wn_A a f) : wn_A (upd a n (nI v)) (fun m => if m = n then v else f m) := fun m hm => by
  dsimp only
  by_cases e : m = n
  · rw [e, pk_us, if_pos rfl]
  · rw [pk_un e, h m hm, if_neg e]
theorem wn_Q_post {q : Nat} {id len d s fr : Nat} {on sd rc ic : Nat → Nat} {a1 a2 a3 a4 a5 a6 a7 a8 : Nat → Int32} {a9 : Nat → Int64} {a10 a14 : Nat → Int32} (h : wn_Q id len d s fr 0 on sd rc ic a1 a2 a3 a4 a5 a6 a7 a8 a9 a10 a14) : wn_Q id len d q fr 1 on sd rc ic a1 a2 a3 a4 a5 (upd a6 q 1) (upd a7 (4 * q) (nI id)) (upd a8 (4 * q) (nI len)) (vp_updL a9 (4 * q) (lN (d % 2 ^ (8 * len)))) a10 a14 := by
  obtain ⟨q1, q2, q3, q4, q5, q6, q7, q8⟩ := h
  refine ⟨q1, q2, q3, q4, fun m hm => ?_, fun _ => ⟨pk_us, pk_us, pk_uLs⟩, q7, q8⟩
  dsimp only
  by_cases e : m = q
  · rw [e, pk_us, if_pos rfl]
    rfl
  · rw [pk_un e, wn_Ag q5 m hm, if_neg e]
    split <;> rfl
theorem wn_Q_6 {id len d s fr : Nat} {on sd rc ic : Nat → Nat} {a1 a2 a3 a4 a5 a6 a7 a8 : Nat → Int32} {a9 : Nat → Int64} {a10 a14 : Nat → Int32} (h : wn_Q id len d s fr 0 on sd rc ic a1 a2 a3 a4 a5 a6 a7 a8 a9 a10 a14) : ∀ n, n < 4 → a6 n = 0 := fun n hn => by
  rw [wn_Ag h.2.2.2.2.1 n hn]
  split <;> rfl
theorem wn_Q_rest {n : Nat} {wc : Nat} {id len d s fr : Nat} {on sd rc ic : Nat → Nat} {a1 a2 a3 a4 a5 a6 a7 a8 : Nat → Int32} {a9 : Nat → Int64} {a10 a14 : Nat → Int32} (h : wn_Q id len d s fr wc on sd rc ic a1 a2 a3 a4 a5 a6 a7 a8 a9 a10 a14) : wn_Q id len d s fr wc (fun m => if m = n then 1 else on m) (fun m => if m = n then 0 else sd m) (fun m => if m = n then 0 else rc m) ic (upd a1 n 1) (upd a2 n 0) (upd a3 n 0) a4 a5 a6 a7 a8 a9 a10 a14 := by
  obtain ⟨q1, q2, q3, q4, q5, q6, q7, q8⟩ := h
  exact ⟨wn_A_u (v := 1) q1, wn_A_u (v := 0) q2, wn_A_u (v := 0) q3, q4, q5, q6, q7, q8⟩
theorem wn_Q_filt {r wc : Nat} {id len d s fr : Nat} {on sd rc ic : Nat → Nat} {a1 a2 a3 a4 a5 a6 a7 a8 : Nat → Int32} {a9 : Nat → Int64} {a10 a14 : Nat → Int32} (hf : fr = 4) (h : wn_Q id len d s fr wc on sd rc ic a1 a2 a3 a4 a5 a6 a7 a8 a9 a10 a14) : wn_Q id len d s r wc on sd rc ic a1 a2 a3 (upd a4 r 2047) (upd a5 r (nI (id ^^^ 1))) a6 a7 a8 a9 a10 a14 := by
  obtain ⟨q1, q2, q3, q4, q5, q6, q7, q8⟩ := h
  refine ⟨q1, q2, q3, fun n hn => ⟨fun z => ?_, fun z => ?_⟩, q5, q6, q7, q8⟩
  · rw [pk_un z]
    exact (q4 n hn).1 (by omega)
  · rw [z, pk_us, pk_us]
    exact ⟨rfl, rfl⟩
theorem wn_Q_canc {id len d s fr : Nat} {on sd rc ic : Nat → Nat} {a1 a2 a3 a4 a5 a6 a7 a8 : Nat → Int32} {a9 : Nat → Int64} {a10 a14 : Nat → Int32} (h : wn_Q id len d s fr 1 on sd rc ic a1 a2 a3 a4 a5 a6 a7 a8 a9 a10 a14) : wn_Q id len d s fr 0 on sd rc ic a1 a2 a3 a4 a5 (upd a6 s 0) a7 a8 a9 a10 a14 := by
  obtain ⟨q1, q2, q3, q4, q5, q6, q7, q8⟩ := h
  refine ⟨q1, q2, q3, q4, fun m hm => ?_, fun z => absurd z (by omega), q7, q8⟩
  dsimp only
  by_cases e : m = s
  · rw [e, pk_us, if_pos rfl]
    rfl
  · rw [pk_un e, wn_Ag q5 m hm, if_neg e, if_neg e]
end
section
/-! ===== the law, from its end ===== -/
theorem wn_and3 (a : Nat) (h : a < 1000) : nI a &&& 3 = nI (a % 4) := pk_andN (by omega) (m := 3) 2 (by decide)
theorem wn_x16 (q : Nat) (h : q < 4) : (nI q + 1) &&& 3 = nI ((q + 1) % 4) := by
  rw [nI_1]
  exact wn_and3 _ (by omega)
theorem wn_wire {post : Int32 → Prop} {ph lf ck sc di : Int32} {a1 a2 a3 a4 a5 a6 a7 a8 a10 a11 a12 a14 a15 a16 a17 a18 a19 a20 a21 a22 a24 a25 : Nat → Int32} {a9 a13 a23 : Nat → Int64} {v : Int32} (h : ph = v) (H : post v) : wpX_wire post (ph, lf, ck, sc, di, a1, a2, a3, a4, a5, a6, a7, a8, a9, a10, a11, a12, a13, a14, a15, a16, a17, a18, a19, a20, a21, a22, a23, a24, a25) := by
  subst h
  exact H
theorem wn_sent {post : Int32 → Prop} {ph lf ck sc di : Int32} {a1 a2 a3 a4 a5 a6 a7 a8 a10 a11 a12 a14 a15 a16 a17 a18 a19 a20 a21 a22 a24 a25 : Nat → Int32} {a9 a13 a23 : Nat → Int64} {v : Int32} (h : sc = v) (H : post v) : wpX_sent post (ph, lf, ck, sc, di, a1, a2, a3, a4, a5, a6, a7, a8, a9, a10, a11, a12, a13, a14, a15, a16, a17, a18, a19, a20, a21, a22, a23, a24, a25) := by
  subst h
  exact H
theorem wn_time {post : Int32 → Prop} {ph lf ck sc di : Int32} {a1 a2 a3 a4 a5 a6 a7 a8 a10 a11 a12 a14 a15 a16 a17 a18 a19 a20 a21 a22 a24 a25 : Nat → Int32} {a9 a13 a23 : Nat → Int64} {v : Int32} (h : ck = v) (H : post v) : wpX_time post (ph, lf, ck, sc, di, a1, a2, a3, a4, a5, a6, a7, a8, a9, a10, a11, a12, a13, a14, a15, a16, a17, a18, a19, a20, a21, a22, a23, a24, a25) := by
  subst h
  exact H
theorem wn_L1095 {post : Int32 → St0 → Prop} {mc ms kc ks : Nat} {ph lf ck sc di : Int32} {a1 a2 a3 a4 a5 a6 a7 a8 a10 a11 a12 a14 a15 a16 a17 a18 a19 a20 a21 a22 a24 a25 : Nat → Int32} {a9 a13 a23 : Nat → Int64} {id len d s fr : Nat} {on sd rc ic : Nat → Nat} {c r : Nat} {z : Int32} (hI : wn_I id len d s fr 0 on sd rc ic 3 3 c 2 0 (ph, lf, ck, sc, di, a1, a2, a3, a4, a5, a6, a7, a8, a9, a10, a11, a12, a13, a14, a15, a16, a17, a18, a19, a20, a21, a22, a23, a24, a25)) (hr : r < 4) (H : post 1 ()) : wL_lawOf_1095 post mc ms (nI r) z z kc ks ph lf ck sc di a1 a2 a3 a4 a5 a6 a7 a8 a9 a10 a11 a12 a13 a14 a15 a16 a17 a18 a19 a20 a21 a22 a23 a24 a25 := by
  have h0 := hI
  obtain ⟨p1, p2, p3, p4, p5, q1, q2, q3, q4, q5, q6, q7, q8⟩ := h0
  unfold wL_lawOf_1095
  refine br_t rfl (wn_sent p4 (br_t rfl (wn_gMiss hr (q8 r hr) (br_t rfl (wn_runP 14 3 0 0 (by omega) (by decide) (by decide) (by decide) (by decide) (by omega) hI ?_)))))
  intro ph lf ck sc di a1 a2 a3 a4 a5 a6 a7 a8 a9 a10 a11 a12 a13 a14 a15 a16 a17 a18 a19 a20 a21 a22 a23 a24 a25 _
  exact br_t rfl H
theorem wn_L1069 {post : Int32 → St0 → Prop} {mc ms kc ks : Nat} {ph lf ck sc di : Int32} {a1 a2 a3 a4 a5 a6 a7 a8 a10 a11 a12 a14 a15 a16 a17 a18 a19 a20 a21 a22 a24 a25 : Nat → Int32} {a9 a13 a23 : Nat → Int64} {id len d s fr : Nat} {on sd rc ic : Nat → Nat} {c r of times M : Nat} {z : Int32} (hI : wn_I id len d s fr 0 on sd rc ic 3 3 c 2 0 (ph, lf, ck, sc, di, a1, a2, a3, a4, a5, a6, a7, a8, a9, a10, a11, a12, a13, a14, a15, a16, a17, a18, a19, a20, a21, a22, a23, a24, a25)) (hr : r < 4) (hrc : rc r = M - 1) (hof : (of = 0 ∧ M = times) ∨ (of = 1 ∧ M = 32)) (ht : 1 ≤ times) (H : post 1 ()) : wL_lawOf_1069 post mc ms (nI times) (nI of) (nI r) z z kc ks ph lf ck sc di a1 a2 a3 a4 a5 a6 a7 a8 a9 a10 a11 a12 a13 a14 a15 a16 a17 a18 a19 a20 a21 a22 a23 a24 a25 := by
  have h0 := hI
  obtain ⟨p1, p2, p3, p4, p5, q1, q2, q3, q4, q5, q6, q7, q8⟩ := h0
  have L : ∀ y, y = nI (M - 1) → wL_lawOf_1095 post mc ms (nI r) y (nI (M - 1)) kc ks ph lf ck sc di a1 a2 a3 a4 a5 a6 a7 a8 a9 a10 a11 a12 a13 a14 a15 a16 a17 a18 a19 a20 a21 a22 a23 a24 a25 := fun y hy => by
    rw [hy]
    exact wn_L1095 hI hr H
  unfold wL_lawOf_1069
  refine br_t rfl (wn_gRecv hr (v := nI (M - 1)) (by rw [wn_Ag q3 r hr, hrc]) ?_)
  rcases hof with ⟨y1, y2⟩ | ⟨y1, y2⟩
  · rw [y1]
    exact br_t rfl (L _ (by rw [y2]; exact pk_sub (b := 1) ht))
  · rw [y1]
    exact br_f (by decide) (L _ (by rw [y2]; rfl))
theorem wn_L1043 {post : Int32 → St0 → Prop} {mc ms kc ks : Nat} {ph lf ck sc di : Int32} {a1 a2 a3 a4 a5 a6 a7 a8 a10 a11 a12 a14 a15 a16 a17 a18 a19 a20 a21 a22 a24 a25 : Nat → Int32} {a9 a13 a23 : Nat → Int64} {id len d s fr : Nat} {on sd rc ic : Nat → Nat} {c q r of times M vv : Nat} {z : Int32} (hI : wn_I id len d s fr 0 on sd rc ic 3 3 c 2 0 (ph, lf, ck, sc, di, a1, a2, a3, a4, a5, a6, a7, a8, a9, a10, a11, a12, a13, a14, a15, a16, a17, a18, a19, a20, a21, a22, a23, a24, a25)) (hq : q < 4) (hr : r < 4) (hsd : sd q = vv) (hrc : rc r = M - 1) (hof : (of = 0 ∧ M = times ∧ vv = 8 * times - 1) ∨ (of = 1 ∧ M = 32 ∧ vv = 0)) (ht : 1 ≤ times) (H : post 1 ()) : wL_lawOf_1043 post mc ms (nI q) (nI times) (nI of) (nI r) z z kc ks ph lf ck sc di a1 a2 a3 a4 a5 a6 a7 a8 a9 a10 a11 a12 a13 a14 a15 a16 a17 a18 a19 a20 a21 a22 a23 a24 a25 := by
  have h0 := hI
  obtain ⟨p1, p2, p3, p4, p5, q1, q2, q3, q4, q5, q6, q7, q8⟩ := h0
  have hof2 : (of = 0 ∧ M = times) ∨ (of = 1 ∧ M = 32) := by
    rcases hof with ⟨y1, y2, _⟩ | ⟨y1, y2, _⟩
    · exact Or.inl ⟨y1, y2⟩
    · exact Or.inr ⟨y1, y2⟩
  have L : ∀ y, y = nI vv → wL_lawOf_1069 post mc ms (nI times) (nI of) (nI r) y (nI vv) kc ks ph lf ck sc di a1 a2 a3 a4 a5 a6 a7 a8 a9 a10 a11 a12 a13 a14 a15 a16 a17 a18 a19 a20 a21 a22 a23 a24 a25 := fun y hy => by
    rw [hy]
    exact wn_L1069 hI hr hrc hof2 ht H
  unfold wL_lawOf_1043
  refine br_t rfl (wn_gSend hq (v := nI vv) (by rw [wn_Ag q2 q hq, hsd]) ?_)
  have e8 : (8 : Int32) * nI times - 1 = nI (8 * times - 1) := by
    have a : (8 : Int32) * nI times = nI (8 * times) := pk_mul 8 times
    rw [a]
    exact pk_sub (b := 1) (by omega)
  rcases hof with ⟨y1, y2, y3⟩ | ⟨y1, y2, y3⟩
  · exact br_t (by rw [y1]; rfl) (L _ (by rw [y3]; exact e8))
  · exact br_f (by rw [y1]; decide) (L _ (by rw [y3]; rfl))
theorem wn_L1013 {post : Int32 → St0 → Prop} {mc ms kc ks : Nat} {ph lf ck sc di : Int32} {a1 a2 a3 a4 a5 a6 a7 a8 a10 a11 a12 a14 a15 a16 a17 a18 a19 a20 a21 a22 a24 a25 : Nat → Int32} {a9 a13 a23 : Nat → Int64} {id len d s fr : Nat} {on sd rc ic : Nat → Nat} {c p q r of times M vv : Nat} {z : Int32} (hI : wn_I id len d s fr 0 on sd rc ic 3 3 c 2 0 (ph, lf, ck, sc, di, a1, a2, a3, a4, a5, a6, a7, a8, a9, a10, a11, a12, a13, a14, a15, a16, a17, a18, a19, a20, a21, a22, a23, a24, a25)) (hp : p < 4) (hq : q < 4) (hr : r < 4) (hic : ic ((r + 1) % 4) = if (r + 1) % 4 = p then 1 else 2) (hsd : sd q = vv) (hrc : rc r = M - 1) (hof : (of = 0 ∧ M = times ∧ vv = 8 * times - 1) ∨ (of = 1 ∧ M = 32 ∧ vv = 0)) (ht : 1 ≤ times) (H : post 1 ()) : wL_lawOf_1013 post mc ms (nI p) (nI q) (nI times) (nI of) (nI r) z z kc ks ph lf ck sc di a1 a2 a3 a4 a5 a6 a7 a8 a9 a10 a11 a12 a13 a14 a15 a16 a17 a18 a19 a20 a21 a22 a23 a24 a25 := by
  have h0 := hI
  obtain ⟨p1, p2, p3, p4, p5, q1, q2, q3, q4, q5, q6, q7, q8⟩ := h0
  unfold wL_lawOf_1013
  rw [wn_x16 r hr]
  have hr2 : (r + 1) % 4 < 4 := by omega
  refine br_t rfl (wn_gRcvd hr2 (q7 _ hr2) ?_)
  rw [hic]
  refine pk_eq ((r + 1) % 4) p (fun e => ?_) (fun e => ?_)
  · rw [if_pos e]
    exact wn_L1043 hI hq hr hsd hrc hof ht H
  · rw [if_neg e]
    exact wn_L1043 hI hq hr hsd hrc hof ht H
theorem wn_L955 {post : Int32 → St0 → Prop} {mc ms kc ks : Nat} {ph lf ck sc di : Int32} {a1 a2 a3 a4 a5 a6 a7 a8 a10 a11 a12 a14 a15 a16 a17 a18 a19 a20 a21 a22 a24 a25 : Nat → Int32} {a9 a13 a23 : Nat → Int64} {id len d p q of times M vv c : Nat} {on sd rc ic : Nat → Nat} (hv : wn_V id len d q) (hp : p < 4) (hI : wn_I id len d q 4 1 on sd rc ic 0 0 c 1 0 (ph, lf, ck, sc, di, a1, a2, a3, a4, a5, a6, a7, a8, a9, a10, a11, a12, a13, a14, a15, a16, a17, a18, a19, a20, a21, a22, a23, a24, a25)) (hon : ∀ n, n < 4 → on n = 1) (hsd : ∀ n, n < 4 → sd n ≤ 255) (hsq : sd q - 1 = vv) (hrc : ∀ n, n < 4 → n ≠ q → rc n = M) (hrc2 : ∀ n, n < 4 → rc n < 255) (hic : ∀ n, n < 4 → ic n = if n = p then 0 else 1)
    (hof : (of = 0 ∧ M = times ∧ vv = 8 * times - 1) ∨ (of = 1 ∧ M = 32 ∧ vv = 0)) (ht : 1 ≤ times) (H : post 1 ()) : wL_lawOf_955 post mc ms (nI id) (nI p) (nI (wn_o id len d (34 + 8 * len))) (nI q) (nI times) (nI of) kc ks ph lf ck sc di a1 a2 a3 a4 a5 a6 a7 a8 a9 a10 a11 a12 a13 a14 a15 a16 a17 a18 a19 a20 a21 a22 a23 a24 a25 := by
  have h0 := hI
  obtain ⟨p1, p2, p3, p4, p5, q1, q2, q3, q4, q5, q6, q7, q8⟩ := h0
  obtain ⟨hq, hid, hl, hd⟩ := hv
  have hput := wn_put id len d hl
  have hr : (q + 1) % 4 < 4 := by omega
  have ex : nI id ^^^ 1 = nI (id ^^^ 1) := nx_xor id 1
  have ep : nI (wn_o id len d (34 + 8 * len)) + 10 = nI (wn_o id len d (34 + 8 * len) + 9 + 1) := nI_add _ 10
  have hB : wn_B q on sd rc ic := ⟨hon, hsd, hrc2, fun n hn => by rw [hic n hn]; split <;> omega⟩
  unfold wL_lawOf_955
  refine nm_r (wn_x16 q hq) ?_
  rw [ex]
  refine wn_filter (m := 2047) hr (by omega) (Nat.xor_lt_two_pow (n := 11) hid (by decide)) ?_
  refine br_t rfl ?_
  rw [ep]
  refine wn_runD (id := id) (len := len) (d := d) (s := q) (fr := (q + 1) % 4) (on := on) (sd := sd) (rc := rc) (ic := ic) (j := 0) (c := c) (t := 1) (g := 0) (wn_o id len d (34 + 8 * len) + 9) ⟨hq, hid, hl, hd⟩ hB (by omega) (by omega) (fun i _ z => absurd z.1 (by omega)) (Or.inl ⟨rfl, p1, p2, p3, p4, p5, wn_Q_filt rfl ⟨q1, q2, q3, q4, q5, q6, q7, q8⟩⟩) ?_
  intro ph lf ck sc di a1 a2 a3 a4 a5 a6 a7 a8 a9 a10 a11 a12 a13 a14 a15 a16 a17 a18 a19 a20 a21 a22 a23 a24 a25 h
  have eg : 0 - (wn_o id len d (34 + 8 * len) + 9) - 1 = 0 := by omega
  rw [eg] at h
  have h' := h
  obtain ⟨p1, p2, p3, p4, p5, q1, q2, q3, q4, q5, q6, q7, q8⟩ := h'
  refine br_t rfl (wn_gRcvd hr (q7 _ hr) ?_)
  have e1 : wn_icD q ((q + 1) % 4) ic ((q + 1) % 4) = if (q + 1) % 4 = p then 0 else 1 := by
    show (if _ then _ else _) = _
    rw [if_pos (Or.inr rfl), hic _ hr]
  have e2 : wn_icD q ((q + 1) % 4) ic (((q + 1) % 4 + 1) % 4) = if ((q + 1) % 4 + 1) % 4 = p then 1 else 2 := by
    show (if _ then _ else _) = _
    rw [if_neg (by omega), hic _ (by omega)]
    split <;> rfl
  have e3 : wn_sdD q sd q = vv := by
    show (if _ then _ else _) = _
    rw [if_pos rfl, hsq]
  have e4 : wn_rcD q rc ((q + 1) % 4) = M - 1 := by
    show (if _ then _ else _) = _
    rw [if_neg (by omega), hrc _ hr (by omega)]
  rw [e1]
  refine pk_eq ((q + 1) % 4) p (fun e => ?_) (fun e => ?_)
  · rw [if_pos e]
    exact wn_L1013 h hp hq hr e2 e3 e4 hof ht H
  · rw [if_neg e]
    exact wn_L1013 h hp hq hr e2 e3 e4 hof ht H
/-! counts while the sender is disturbed again and again -/
def wn_on (q i : Nat) : Nat → Nat := fun n => if n = q ∧ 32 ≤ i then 0 else 1
def wn_sd (q i : Nat) : Nat → Nat := fun n => if n = q then 8 * i else 0
def wn_rc (q i : Nat) : Nat → Nat := fun n => if n = q then 0 else i
def wn_ic (p : Nat) : Nat → Nat := fun n => if n = p then 0 else 1
/-- behind the check of the counts: all on, or the sender was put off and comes back -/
theorem wn_L823x {post : Int32 → St0 → Prop} {mc ms kc ks : Nat} {ph lf ck sc di : Int32} {a1 a2 a3 a4 a5 a6 a7 a8 a10 a11 a12 a14 a15 a16 a17 a18 a19 a20 a21 a22 a24 a25 : Nat → Int32} {a9 a13 a23 : Nat → Int64} {id len d p q of times M c n : Nat} (hv : wn_V id len d q) (hp : p < 4) (hI : wn_I id len d q 4 1 (wn_on q M) (wn_sd q M) (wn_rc q M) (wn_ic p) 0 0 c 1 0 (ph, lf, ck, sc, di, a1, a2, a3, a4, a5, a6, a7, a8, a9, a10, a11, a12, a13, a14, a15, a16, a17, a18, a19, a20, a21, a22, a23, a24, a25)) (hof : (of = 0 ∧ M = times ∧ times < 32) ∨ (of = 1 ∧ M = 32)) (ht : 1 ≤ times) (H : post 1 ()) : wL_lawOf_823 post mc ms (lN d) (nI id) (nI len) (nI p) (nI (wn_o id len d (34 + 8 * len))) (nI q) (nI times) (nI of) kc ks ph lf ck sc di a1 a2 a3 a4 a5 a6 a7 a8 a9 a10 a11 a12 a13 a14 a15 a16 a17 a18 a19 a20 a21 a22 a23 a24 a25 (n + 1) 4 := by
  have h0 := hI
  obtain ⟨p1, p2, p3, p4, p5, q1, q2, q3, q4, q5, q6, q7, q8⟩ := h0
  obtain ⟨hq, hid, hl, hd⟩ := hv
  refine pk_le 4 4 (fun _ => ?_) (fun z => absurd z (by omega))
  rcases hof with ⟨y1, y2, y3⟩ | ⟨y1, y2⟩
  · refine br_t (by rw [y1]; rfl) ?_
    refine wn_L955 (M := M) (vv := 8 * times - 1) ⟨hq, hid, hl, hd⟩ hp hI (fun n hn => ?_) (fun n hn => ?_) ?_ (fun n hn hnq => ?_) (fun n hn => ?_) (fun n hn => rfl) (Or.inl ⟨y1, y2, rfl⟩) ht H
    · show (if _ then _ else _) = _
      rw [if_neg (by omega)]
    · unfold wn_sd
      split <;> omega
    · show (if _ then _ else _) - 1 = _
      rw [if_pos rfl, y2]
    · show (if _ then _ else _) = _
      rw [if_neg hnq]
    · unfold wn_rc
      split <;> omega
  · refine br_f (by rw [y1]; decide) ?_
    have o0 : wn_on q M q = 0 := by
      show (if _ then _ else _) = _
      rw [if_pos ⟨rfl, by omega⟩]
    refine wn_runI 100 (by omega) hq o0 hI ?_
    clear hI p1 p2 p3 p4 p5 q1 q2 q3 q4 q5 q6 q7 q8
    intro ph lf ck sc di a1 a2 a3 a4 a5 a6 a7 a8 a9 a10 a11 a12 a13 a14 a15 a16 a17 a18 a19 a20 a21 a22 a23 a24 a25 h
    have h' := h
    obtain ⟨p1, p2, p3, p4, p5, q1, q2, q3, q4, q5, q6, q7, q8⟩ := h'
    refine br_t rfl (wn_wire p1 (br_t rfl (wn_gUnder (by rw [p1]; decide) (br_t rfl (wn_cancel hq hid (by rw [p1]; decide) q5 (q6 rfl).1 ?_)))))
    intro b15 b16
    have Q1 := wn_Q_canc ⟨q1, q2, q3, q4, q5, q6, q7, q8⟩
    have ec : (2048 : Int32) * nI q + nI id = nI (2048 * q + id) := by
      show nI 2048 * nI q + nI id = _
      rw [pk_mul, nI_add]
    refine br_t rfl ?_
    rw [ec]
    refine wn_post hq hid hl hd (wn_Q_6 Q1) ?_
    have Q2 := wn_Q_post (q := q) Q1
    refine br_t rfl (wn_restart hq (v := 0) (by rw [wn_Ag q1 q hq, o0]) (by omega) (by rw [p1]; decide) (by rw [p1]; decide) ?_)
    have Q3 := wn_Q_rest (n := q) Q2
    refine br_t rfl (wn_gSend hq pk_us (br_t rfl ?_))
    refine wn_L955 (M := M) (vv := 0) (on := fun m => if m = q then 1 else wn_on q M m) (sd := fun m => if m = q then 0 else wn_sd q M m) (rc := fun m => if m = q then 0 else wn_rc q M m) (ic := wn_ic p) ⟨hq, hid, hl, hd⟩ hp ⟨p1, p2, p3, p4, p5, Q3⟩ (fun n hn => ?_) (fun n hn => ?_) ?_ (fun n hn hnq => ?_) (fun n hn => ?_) (fun n hn => rfl) (Or.inr ⟨y1, y2, rfl⟩) ht H
    · by_cases e : n = q
      · rw [if_pos e]
      · rw [if_neg e]
        show (if _ then _ else _) = _
        rw [if_neg (by omega)]
    · by_cases e : n = q
      · rw [if_pos e]
        omega
      · rw [if_neg e]
        show (if _ then _ else _) ≤ _
        rw [if_neg e]
        omega
    · rw [if_pos rfl]
    · rw [if_neg hnq]
      show (if _ then _ else _) = _
      rw [if_neg hnq]
    · by_cases e : n = q
      · rw [if_pos e]
        omega
      · rw [if_neg e]
        show (if _ then _ else _) < _
        rw [if_neg e]
        omega
theorem wn_L823 {post : Int32 → St0 → Prop} {mc ms kc ks : Nat} {ph lf ck sc di : Int32} {a1 a2 a3 a4 a5 a6 a7 a8 a10 a11 a12 a14 a15 a16 a17 a18 a19 a20 a21 a22 a24 a25 : Nat → Int32} {a9 a13 a23 : Nat → Int64} {id len d p q of times M c : Nat} (hv : wn_V id len d q) (hp : p < 4) (hI : wn_I id len d q 4 1 (wn_on q M) (wn_sd q M) (wn_rc q M) (wn_ic p) 0 0 c 1 0 (ph, lf, ck, sc, di, a1, a2, a3, a4, a5, a6, a7, a8, a9, a10, a11, a12, a13, a14, a15, a16, a17, a18, a19, a20, a21, a22, a23, a24, a25)) (hof : (of = 0 ∧ M = times ∧ times < 32) ∨ (of = 1 ∧ M = 32)) (ht : 1 ≤ times) (H : post 1 ()) : ∃ fu, wL_lawOf_823 post mc ms (lN d) (nI id) (nI len) (nI p) (nI (wn_o id len d (34 + 8 * len))) (nI q) (nI times) (nI of) kc ks ph lf ck sc di a1 a2 a3 a4 a5 a6 a7 a8 a9 a10 a11 a12 a13 a14 a15 a16 a17 a18 a19 a20 a21 a22 a23 a24 a25 fu 0 := by
  have h0 := hI
  obtain ⟨p1, p2, p3, p4, p5, q1, q2, q3, q4, q5, q6, q7, q8⟩ := h0
  have hq := hv.1
  refine pk_loop (σ := Unit) (fun n i _ => wL_lawOf_823 post mc ms (lN d) (nI id) (nI len) (nI p) (nI (wn_o id len d (34 + 8 * len))) (nI q) (nI times) (nI of) kc ks ph lf ck sc di a1 a2 a3 a4 a5 a6 a7 a8 a9 a10 a11 a12 a13 a14 a15 a16 a17 a18 a19 a20 a21 a22 a23 a24 a25 n (nI i)) (fun _ _ => True) 4 0 () (by omega) trivial ?_ ?_
  · intro n _ _
    exact wn_L823x hv hp hI hof ht H
  · intro n i _ hi _ hk
    have K := hk () trivial
    refine pk_le 4 i (fun z => absurd z (by omega)) (fun _ => pk_eq i q (fun _ => nm_r (nI_1 i) K) (fun e => wn_gRecv hi (v := nI M) ?_ ?_))
    · rw [wn_Ag q3 i hi]
      show nI (if _ then _ else _) = _
      rw [if_neg e]
    · rcases hof with ⟨y1, y2, y3⟩ | ⟨y1, y2⟩
      · refine br_t (by rw [y1]; rfl) ?_
        unfold wL_lawOf_855
        exact br_t (by rw [y2]) (nm_r (nI_1 i) K)
      · refine br_f (by rw [y1]; decide) ?_
        unfold wL_lawOf_855
        exact br_t (by rw [y2]; rfl) (nm_r (nI_1 i) K)
theorem wn_L748 {post : Int32 → St0 → Prop} {mc ms kc ks : Nat} {ph lf ck sc di : Int32} {a1 a2 a3 a4 a5 a6 a7 a8 a10 a11 a12 a14 a15 a16 a17 a18 a19 a20 a21 a22 a24 a25 : Nat → Int32} {a9 a13 a23 : Nat → Int64} {id len d p q times M c : Nat} (hv : wn_V id len d q) (hp : p < 4) (hI : wn_I id len d q 4 1 (wn_on q M) (wn_sd q M) (wn_rc q M) (wn_ic p) 0 0 c 1 0 (ph, lf, ck, sc, di, a1, a2, a3, a4, a5, a6, a7, a8, a9, a10, a11, a12, a13, a14, a15, a16, a17, a18, a19, a20, a21, a22, a23, a24, a25)) (hM : M = min times 32) (ht : 1 ≤ times) (ht2 : times ≤ 33) (H : post 1 ()) : wL_lawOf_748 post mc ms (lN d) (nI id) (nI len) (nI p) (nI (wn_o id len d (34 + 8 * len))) (nI q) (nI times) kc ks ph lf ck sc di a1 a2 a3 a4 a5 a6 a7 a8 a9 a10 a11 a12 a13 a14 a15 a16 a17 a18 a19 a20 a21 a22 a23 a24 a25 := by
  have h0 := hI
  obtain ⟨p1, p2, p3, p4, p5, q1, q2, q3, q4, q5, q6, q7, q8⟩ := h0
  have hq := hv.1
  have esd : a2 q = nI (8 * M) := by
    rw [wn_Ag q2 q hq]
    show nI (if _ then _ else _) = _
    rw [if_pos rfl]
  have e6 : a6 q = 1 := by
    rw [wn_Ag q5 q hq, if_pos rfl]
    rfl
  have e1 : a1 q = nI (if 32 ≤ M then 0 else 1) := by
    rw [wn_Ag q1 q hq]
    show nI (if _ then _ else _) = _
    by_cases e : 32 ≤ M
    · rw [if_pos e, if_pos ⟨rfl, e⟩]
    · rw [if_neg e, if_neg (fun z => e z.2)]
  unfold wL_lawOf_748
  refine pk_lt times 32 (fun h => ?_) (fun h => ?_)
  · unfold wL_lawOf_760
    refine wn_gOn (v := 1) hq (by rw [e1, if_neg (by omega)]) (by omega) (br_t rfl ?_)
    unfold wL_lawOf_779
    refine br_t rfl (wn_gSend hq esd (br_t rfl ?_))
    unfold wL_lawOf_803
    refine br_t ?_ (wn_gWait hq e6 (br_t rfl (wn_L823 (of := 0) (M := M) hv hp hI (Or.inl ⟨rfl, by omega, h⟩) ht H)))
    rw [show M = times by omega]
    exact (pk_mul 8 times).symm
  · unfold wL_lawOf_760
    refine wn_gOn (v := 0) hq (by rw [e1, if_pos (by omega)]) (by omega) (br_f (by decide) ?_)
    unfold wL_lawOf_779
    refine br_t rfl (wn_gSend hq esd (br_f (by decide) ?_))
    unfold wL_lawOf_803
    refine br_t ?_ (wn_gWait hq e6 (br_t rfl (wn_L823 (of := 1) (M := M) hv hp hI (Or.inr ⟨rfl, by omega⟩) ht H)))
    rw [show M = 32 by omega]
    rfl
/-- one disturbance -/
theorem wn_L649s {post : Int32 → St0 → Prop} {mc ms kc ks : Nat} {ph lf ck sc di : Int32} {a1 a2 a3 a4 a5 a6 a7 a8 a10 a11 a12 a14 a15 a16 a17 a18 a19 a20 a21 a22 a24 a25 : Nat → Int32} {a9 a13 a23 : Nat → Int64} {id len d p q times c i n : Nat} (hv : wn_V id len d q) (hp : p < 4) (hi : i < min times 32) (ht2 : times ≤ 33) (hI : wn_I id len d q 4 1 (wn_on q i) (wn_sd q i) (wn_rc q i) (wn_ic p) 0 0 c 1 0 (ph, lf, ck, sc, di, a1, a2, a3, a4, a5, a6, a7, a8, a9, a10, a11, a12, a13, a14, a15, a16, a17, a18, a19, a20, a21, a22, a23, a24, a25))
    (hk : ∀ (ph lf ck sc di : Int32) (a1 a2 a3 a4 a5 a6 a7 a8 : Nat → Int32) (a9 : Nat → Int64) (a10 a11 a12 : Nat → Int32) (a13 : Nat → Int64) (a14 a15 a16 a17 a18 a19 a20 a21 a22 : Nat → Int32) (a23 : Nat → Int64) (a24 a25 : Nat → Int32), wn_I id len d q 4 1 (wn_on q (i + 1)) (wn_sd q (i + 1)) (wn_rc q (i + 1)) (wn_ic p) 0 0 (c + (wn_o id len d 12 + 18)) 1 0 (ph, lf, ck, sc, di, a1, a2, a3, a4, a5, a6, a7, a8, a9, a10, a11, a12, a13, a14, a15, a16, a17, a18, a19, a20, a21, a22, a23, a24, a25) → wL_lawOf_649 post mc ms (lN d) (nI id) (nI len) (nI p) (nI (wn_o id len d 12)) (nI (wn_o id len d (34 + 8 * len))) (nI q) (nI times) kc ks n (nI (i + 1)) ph lf ck sc di a1 a2 a3 a4 a5 a6 a7 a8 a9 a10 a11 a12 a13 a14 a15 a16 a17 a18 a19 a20 a21 a22 a23 a24 a25) : wL_lawOf_649 post mc ms (lN d) (nI id) (nI len) (nI p) (nI (wn_o id len d 12)) (nI (wn_o id len d (34 + 8 * len))) (nI q) (nI times) kc ks (n + 1) (nI i) ph lf ck sc di a1 a2 a3 a4 a5 a6 a7 a8 a9 a10 a11 a12 a13 a14 a15 a16 a17 a18 a19 a20 a21 a22 a23 a24 a25 := by
  have h0 := hI
  obtain ⟨p1, p2, p3, p4, p5, q1, q2, q3, q4, q5, q6, q7, q8⟩ := h0
  have hq := hv.1
  have hput := wn_put id len d hv.2.2.1
  have es : a2 q = nI (8 * i) := by
    rw [wn_Ag q2 q hq]
    show nI (if _ then _ else _) = _
    rw [if_pos rfl]
  have eo : ∀ n, n < 4 → wn_on q i n = 1 := fun n hn => by
    show (if _ then _ else _) = _
    rw [if_neg (by omega)]
  have hB : wn_B q (wn_on q i) (wn_sd q i) (wn_rc q i) (wn_ic p) := by
    refine ⟨eo, fun n hn => ?_, fun n hn => ?_, fun n hn => ?_⟩
    · unfold wn_sd
      split <;> omega
    · unfold wn_rc
      split <;> omega
    · unfold wn_ic
      split <;> omega
  unfold wL_lawOf_649
  rw [nI_1 (wn_o id len d 12)]
  refine pk_le times i (fun z => absurd z (by omega)) (fun _ => pk_le 32 i (fun z => absurd z (by omega)) (fun _ => wn_gSend hq es (br_t (pk_mul 8 i).symm (wn_gOn (v := 1) hq (by rw [wn_Ag q1 q hq, eo q hq]) (by omega) (br_t rfl ?_)))))
  refine wn_disturb (by omega) (by omega) (br_t rfl ?_)
  refine wn_runB (id := id) (len := len) (d := d) (s := q) (fr := 4) (on := wn_on q i) (sd := wn_sd q i) (rc := wn_rc q i) (ic := wn_ic p) (j := 0) (c := c) (t := 1) (g := wn_o id len d 12 + 1) (wn_o id len d 12) hv hB (by omega) rfl (by omega) ((wn_ct_iff id len d _).mpr (by omega)) (Or.inl ⟨rfl, p1, p2, p3, p4, rfl, q1, q2, q3, q4, q5, q6, q7, q8⟩) ?_
  clear p1 p2 p3 p4 p5 q1 q2 q3 q4 q5 q6 q7 q8 hI es
  intro ph lf ck sc di a1 a2 a3 a4 a5 a6 a7 a8 a9 a10 a11 a12 a13 a14 a15 a16 a17 a18 a19 a20 a21 a22 a23 a24 a25 h
  refine br_t rfl (wn_wire h.1 (br_t rfl (wn_runP 0 17 0 0 (by omega) (by decide) (by decide) (by decide) (by decide) (by omega) h ?_)))
  clear h
  intro ph lf ck sc di a1 a2 a3 a4 a5 a6 a7 a8 a9 a10 a11 a12 a13 a14 a15 a16 a17 a18 a19 a20 a21 a22 a23 a24 a25 h
  refine br_t rfl (wn_wire h.1 (br_t rfl (nm_r (nI_1 i) (hk ph lf ck sc di a1 a2 a3 a4 a5 a6 a7 a8 a9 a10 a11 a12 a13 a14 a15 a16 a17 a18 a19 a20 a21 a22 a23 a24 a25 ?_))))
  have ec : c + wn_o id len d 12 + 1 + 17 = c + (wn_o id len d 12 + 18) := by omega
  rw [ec] at h
  refine wn_I_c (fun n hn => ?_) (fun n hn => ?_) (fun n hn => ?_) (fun n hn => rfl) h
  · show (if n = q then (if wn_sd q i n + 8 ≤ 255 then 1 else 0) else wn_on q i n) = (if n = q ∧ 32 ≤ i + 1 then 0 else 1)
    by_cases e : n = q
    · have e2 : wn_sd q i n = 8 * i := by
        show (if _ then _ else _) = _
        rw [if_pos e]
      rw [if_pos e, e2]
      by_cases e3 : 32 ≤ i + 1
      · rw [if_neg (by omega), if_pos ⟨e, e3⟩]
      · rw [if_pos (by omega), if_neg (fun z => e3 z.2)]
    · rw [if_neg e, if_neg (fun z => e z.1), eo n hn]
  · show (if n = q then (if n = q then 8 * i else 0) + 8 else (if n = q then 8 * i else 0)) = (if n = q then 8 * (i + 1) else 0)
    by_cases e : n = q
    · rw [if_pos e, if_pos e, if_pos e]
      omega
    · rw [if_neg e, if_neg e, if_neg e]
  · show (if n = q then (if n = q then 0 else i) else (if n = q then 0 else i) + 1) = (if n = q then 0 else i + 1)
    by_cases e : n = q
    · rw [if_pos e, if_pos e, if_pos e]
    · rw [if_neg e, if_neg e, if_neg e]
/-- the loop of disturbances -/
theorem wn_L649 {post : Int32 → St0 → Prop} {mc ms kc ks : Nat} {ph lf ck sc di : Int32} {a1 a2 a3 a4 a5 a6 a7 a8 a10 a11 a12 a14 a15 a16 a17 a18 a19 a20 a21 a22 a24 a25 : Nat → Int32} {a9 a13 a23 : Nat → Int64} {id len d p q times c : Nat} (hv : wn_V id len d q) (hp : p < 4) (hI : wn_I id len d q 4 1 (wn_on q 0) (wn_sd q 0) (wn_rc q 0) (wn_ic p) 0 0 c 1 0 (ph, lf, ck, sc, di, a1, a2, a3, a4, a5, a6, a7, a8, a9, a10, a11, a12, a13, a14, a15, a16, a17, a18, a19, a20, a21, a22, a23, a24, a25)) (ht : 1 ≤ times) (ht2 : times ≤ 33) (H : post 1 ()) : ∃ fu, wL_lawOf_649 post mc ms (lN d) (nI id) (nI len) (nI p) (nI (wn_o id len d 12)) (nI (wn_o id len d (34 + 8 * len))) (nI q) (nI times) kc ks fu 0 ph lf ck sc di a1 a2 a3 a4 a5 a6 a7 a8 a9 a10 a11 a12 a13 a14 a15 a16 a17 a18 a19 a20 a21 a22 a23 a24 a25 := by
  refine pk_loop (σ := St2) (fun n i u => wL_lawOf_649 post mc ms (lN d) (nI id) (nI len) (nI p) (nI (wn_o id len d 12)) (nI (wn_o id len d (34 + 8 * len))) (nI q) (nI times) kc ks n (nI i) u.1 u.2.1 u.2.2.1 u.2.2.2.1 u.2.2.2.2.1 u.2.2.2.2.2.1 u.2.2.2.2.2.2.1 u.2.2.2.2.2.2.2.1 u.2.2.2.2.2.2.2.2.1 u.2.2.2.2.2.2.2.2.2.1 u.2.2.2.2.2.2.2.2.2.2.1 u.2.2.2.2.2.2.2.2.2.2.2.1 u.2.2.2.2.2.2.2.2.2.2.2.2.1 u.2.2.2.2.2.2.2.2.2.2.2.2.2.1 u.2.2.2.2.2.2.2.2.2.2.2.2.2.2.1 u.2.2.2.2.2.2.2.2.2.2.2.2.2.2.2.1 u.2.2.2.2.2.2.2.2.2.2.2.2.2.2.2.2.1 u.2.2.2.2.2.2.2.2.2.2.2.2.2.2.2.2.2.1 u.2.2.2.2.2.2.2.2.2.2.2.2.2.2.2.2.2.2.1 u.2.2.2.2.2.2.2.2.2.2.2.2.2.2.2.2.2.2.2.1 u.2.2.2.2.2.2.2.2.2.2.2.2.2.2.2.2.2.2.2.2.1 u.2.2.2.2.2.2.2.2.2.2.2.2.2.2.2.2.2.2.2.2.2.1 u.2.2.2.2.2.2.2.2.2.2.2.2.2.2.2.2.2.2.2.2.2.2.1 u.2.2.2.2.2.2.2.2.2.2.2.2.2.2.2.2.2.2.2.2.2.2.2.1 u.2.2.2.2.2.2.2.2.2.2.2.2.2.2.2.2.2.2.2.2.2.2.2.2.1 u.2.2.2.2.2.2.2.2.2.2.2.2.2.2.2.2.2.2.2.2.2.2.2.2.2.1 u.2.2.2.2.2.2.2.2.2.2.2.2.2.2.2.2.2.2.2.2.2.2.2.2.2.2.1 u.2.2.2.2.2.2.2.2.2.2.2.2.2.2.2.2.2.2.2.2.2.2.2.2.2.2.2.1 u.2.2.2.2.2.2.2.2.2.2.2.2.2.2.2.2.2.2.2.2.2.2.2.2.2.2.2.2.1 u.2.2.2.2.2.2.2.2.2.2.2.2.2.2.2.2.2.2.2.2.2.2.2.2.2.2.2.2.2) (fun i u => ∃ c, wn_I id len d q 4 1 (wn_on q i) (wn_sd q i) (wn_rc q i) (wn_ic p) 0 0 c 1 0 u) (min times 32) 0 (ph, lf, ck, sc, di, a1, a2, a3, a4, a5, a6, a7, a8, a9, a10, a11, a12, a13, a14, a15, a16, a17, a18, a19, a20, a21, a22, a23, a24, a25) (by omega) ⟨c, hI⟩ ?_ ?_
  · intro n ⟨ph, lf, ck, sc, di, a1, a2, a3, a4, a5, a6, a7, a8, a9, a10, a11, a12, a13, a14, a15, a16, a17, a18, a19, a20, a21, a22, a23, a24, a25⟩ ⟨c', hI⟩
    have L := wn_L748 (post := post) (mc := mc) (ms := ms) (kc := kc) (ks := ks) hv hp hI rfl ht ht2 H
    show wL_lawOf_649 post mc ms (lN d) (nI id) (nI len) (nI p) (nI (wn_o id len d 12)) (nI (wn_o id len d (34 + 8 * len))) (nI q) (nI times) kc ks (n + 1) (nI (min times 32)) ph lf ck sc di a1 a2 a3 a4 a5 a6 a7 a8 a9 a10 a11 a12 a13 a14 a15 a16 a17 a18 a19 a20 a21 a22 a23 a24 a25
    unfold wL_lawOf_649
    exact pk_le times (min times 32) (fun _ => L) (fun z => pk_le 32 (min times 32) (fun _ => L) (fun z => absurd z (by omega)))
  · intro n i ⟨ph, lf, ck, sc, di, a1, a2, a3, a4, a5, a6, a7, a8, a9, a10, a11, a12, a13, a14, a15, a16, a17, a18, a19, a20, a21, a22, a23, a24, a25⟩ hi ⟨c', hI⟩ hk
    show wL_lawOf_649 post mc ms (lN d) (nI id) (nI len) (nI p) (nI (wn_o id len d 12)) (nI (wn_o id len d (34 + 8 * len))) (nI q) (nI times) kc ks (n + 1) (nI i) ph lf ck sc di a1 a2 a3 a4 a5 a6 a7 a8 a9 a10 a11 a12 a13 a14 a15 a16 a17 a18 a19 a20 a21 a22 a23 a24 a25
    exact wn_L649s hv hp hi ht2 hI (fun ph lf ck sc di a1 a2 a3 a4 a5 a6 a7 a8 a9 a10 a11 a12 a13 a14 a15 a16 a17 a18 a19 a20 a21 a22 a23 a24 a25 h => hk (ph, lf, ck, sc, di, a1, a2, a3, a4, a5, a6, a7, a8, a9, a10, a11, a12, a13, a14, a15, a16, a17, a18, a19, a20, a21, a22, a23, a24, a25) ⟨_, h⟩)
end
section
/-! ===== the law's first half ===== -/
def wn_one : Nat → Nat := fun _ => 1
def wn_zer : Nat → Nat := fun _ => 0
def wn_sp (p v : Nat) : Nat → Nat := fun n => if n = p then v else 0
theorem wn_L479x {post : Int32 → St0 → Prop} {mc ms kc ks : Nat} {ph lf ck sc di : Int32} {a1 a2 a3 a4 a5 a6 a7 a8 a10 a11 a12 a14 a15 a16 a17 a18 a19 a20 a21 a22 a24 a25 : Nat → Int32} {a9 a13 a23 : Nat → Int64} {id len d p b7 c n : Nat} {x2 x12 : Int32} (hv : wn_V id len d p) (hI : wn_I id len d p 4 0 wn_one (wn_sp p b7) wn_zer (wn_ic p) 3 3 c 1 0 (ph, lf, ck, sc, di, a1, a2, a3, a4, a5, a6, a7, a8, a9, a10, a11, a12, a13, a14, a15, a16, a17, a18, a19, a20, a21, a22, a23, a24, a25)) (H : post 1 ()) : wL_lawOf_479 post mc ms x2 (lN d) (nI id) (nI len) (nI p) (nI (wn_o id len d 12)) (nI (wn_o id len d (34 + 8 * len))) x12 kc ks ph lf ck sc di a1 a2 a3 a4 a5 a6 a7 a8 a9 a10 a11 a12 a13 a14 a15 a16 a17 a18 a19 a20 a21 a22 a23 a24 a25 (n + 1) 4 := by
  have h0 := hI
  obtain ⟨p1, p2, p3, p4, p5, q1, q2, q3, q4, q5, q6, q7, q8⟩ := h0
  obtain ⟨hp, hid, hl, hd⟩ := hv
  obtain ⟨b, hb, eb⟩ := pk_andE x2 (m := 1) 1 (by decide)
  obtain ⟨v, hv, ev⟩ := pk_andE (x2 >>> ((1 : Int32) &&& 31)) (m := 255) 8 (by decide)
  have hq : (p + 1 + b) % 4 < 4 := by omega
  have eq : ((nI p + 1) + (x2 &&& 1)) &&& 3 = nI ((p + 1 + b) % 4) := by
    rw [eb, nI_1, nI_add]
    exact wn_and3 _ (by omega)
  have et : (1 : Int32) + (((x2 >>> ((1 : Int32) &&& 31)) &&& 255) - ((x2 >>> ((1 : Int32) &&& 31)) &&& 255) / 33 * 33) = nI (1 + v % 33) := by
    have a := pk_rem (a := v) (d := 33) (by omega) (by omega) (by omega)
    rw [ev]
    have a' : nI v - nI v / 33 * 33 = nI (v % 33) := a
    rw [a']
    exact nI_add 1 _
  have ec : (2048 : Int32) * nI ((p + 1 + b) % 4) + nI id = nI (2048 * ((p + 1 + b) % 4) + id) := by
    show nI 2048 * nI _ + nI id = _
    rw [pk_mul, nI_add]
  refine pk_le 4 4 (fun _ => ?_) (fun z => absurd z (by omega))
  refine wn_restart hp (v := 1) (q1 p hp) (by omega) (by rw [p1]; decide) (by rw [p1]; decide) ?_
  have Q3 := wn_Q_rest (n := p) ⟨q1, q2, q3, q4, q5, q6, q7, q8⟩
  refine br_t rfl (wn_gSend hp pk_us (br_t rfl ?_))
  refine wn_runP 14 3 0 0 (wc := 0) (id := id) (len := len) (d := d) (s := p) (fr := 4) (on := fun m => if m = p then 1 else wn_one m) (sd := fun m => if m = p then 0 else wn_sp p b7 m) (rc := fun m => if m = p then 0 else wn_zer m) (ic := wn_ic p) (p := 3) (l := 3) (c := c) (t := 1) (g := 0) (by omega) (by decide) (by decide) (by decide) (by decide) (by omega) ⟨p1, p2, p3, p4, p5, Q3⟩ ?_
  clear hI p1 p2 p3 p4 p5 q1 q2 q3 q4 q5 q6 q7 q8 Q3
  intro ph lf ck sc di a1 a2 a3 a4 a5 a6 a7 a8 a9 a10 a11 a12 a13 a14 a15 a16 a17 a18 a19 a20 a21 a22 a23 a24 a25 h
  obtain ⟨p1, p2, p3, p4, p5, Q⟩ := h
  refine br_t rfl (wn_wire p1 (br_t rfl ?_))
  rw [eq, et]
  refine nm_e ?_
  rw [ec]
  refine wn_post hq hid hl hd (wn_Q_6 Q) ⟨by decide, nm_e ?_⟩
  refine wn_L649 (c := c + 3) ⟨hq, hid, hl, hd⟩ hp ?_ (by omega) (by omega) H
  refine wn_I_c (fun m hm => ?_) (fun m hm => ?_) (fun m hm => ?_) (fun m hm => rfl) ⟨p1, p2, p3, p4, p5, wn_Q_post (q := (p + 1 + b) % 4) Q⟩
  · show (if m = p then 1 else 1) = (if m = (p + 1 + b) % 4 ∧ 32 ≤ 0 then 0 else 1)
    have e : ¬ (m = (p + 1 + b) % 4 ∧ 32 ≤ 0) := fun z => absurd z.2 (by omega)
    rw [if_neg e]
    split <;> rfl
  · show (if m = p then 0 else (if m = p then b7 else 0)) = (if m = (p + 1 + b) % 4 then 8 * 0 else 0)
    by_cases e : m = p
    · rw [if_pos e]
      split <;> rfl
    · rw [if_neg e, if_neg e]
      split <;> rfl
  · show (if m = p then 0 else 0) = (if m = (p + 1 + b) % 4 then 0 else 0)
    split <;> split <;> rfl
theorem wn_L479 {post : Int32 → St0 → Prop} {mc ms kc ks : Nat} {ph lf ck sc di : Int32} {a1 a2 a3 a4 a5 a6 a7 a8 a10 a11 a12 a14 a15 a16 a17 a18 a19 a20 a21 a22 a24 a25 : Nat → Int32} {a9 a13 a23 : Nat → Int64} {id len d p br b7 c : Nat} {x2 : Int32} (hv : wn_V id len d p) (hI : wn_I id len d p 4 0 wn_one (wn_sp p b7) wn_zer (wn_ic p) 3 3 c 1 0 (ph, lf, ck, sc, di, a1, a2, a3, a4, a5, a6, a7, a8, a9, a10, a11, a12, a13, a14, a15, a16, a17, a18, a19, a20, a21, a22, a23, a24, a25)) (hbr : (br = 0 ∧ b7 = 0) ∨ (br = 1 ∧ b7 = 7)) (H : post 1 ()) : ∃ fu, wL_lawOf_479 post mc ms x2 (lN d) (nI id) (nI len) (nI p) (nI (wn_o id len d 12)) (nI (wn_o id len d (34 + 8 * len))) (nI br) kc ks ph lf ck sc di a1 a2 a3 a4 a5 a6 a7 a8 a9 a10 a11 a12 a13 a14 a15 a16 a17 a18 a19 a20 a21 a22 a23 a24 a25 fu 0 := by
  have h0 := hI
  obtain ⟨p1, p2, p3, p4, p5, q1, q2, q3, q4, q5, q6, q7, q8⟩ := h0
  have hp := hv.1
  refine pk_loop (σ := Unit) (fun n i _ => wL_lawOf_479 post mc ms x2 (lN d) (nI id) (nI len) (nI p) (nI (wn_o id len d 12)) (nI (wn_o id len d (34 + 8 * len))) (nI br) kc ks ph lf ck sc di a1 a2 a3 a4 a5 a6 a7 a8 a9 a10 a11 a12 a13 a14 a15 a16 a17 a18 a19 a20 a21 a22 a23 a24 a25 n (nI i)) (fun _ _ => True) 4 0 () (by omega) trivial ?_ ?_
  · intro n _ _
    exact wn_L479x hv hI H
  · intro n i _ hi _ hk
    have K := hk () trivial
    have e3 : a3 i = 0 := q3 i hi
    have e6 : a6 i = 0 := by
      rw [wn_Ag q5 i hi]
      split <;> rfl
    have L542 : ∀ z : Int32, wL_lawOf_542 post mc ms (wL_lawOf_479 post mc ms x2 (lN d) (nI id) (nI len) (nI p) (nI (wn_o id len d 12)) (nI (wn_o id len d (34 + 8 * len))) (nI br) kc ks ph lf ck sc di a1 a2 a3 a4 a5 a6 a7 a8 a9 a10 a11 a12 a13 a14 a15 a16 a17 a18 a19 a20 a21 a22 a23 a24 a25 n) x2 (lN d) (nI id) (nI len) (nI p) (nI (wn_o id len d 12)) (nI (wn_o id len d (34 + 8 * len))) (nI br) (nI i) z z kc ks ph lf ck sc di a1 a2 a3 a4 a5 a6 a7 a8 a9 a10 a11 a12 a13 a14 a15 a16 a17 a18 a19 a20 a21 a22 a23 a24 a25 := by
      intro z
      unfold wL_lawOf_542
      exact br_t rfl (wn_gWait hi e6 (br_t rfl (nm_r (nI_1 i) K)))
    have L510 : ∀ z : Int32, wL_lawOf_510 post mc ms (wL_lawOf_479 post mc ms x2 (lN d) (nI id) (nI len) (nI p) (nI (wn_o id len d 12)) (nI (wn_o id len d (34 + 8 * len))) (nI br) kc ks ph lf ck sc di a1 a2 a3 a4 a5 a6 a7 a8 a9 a10 a11 a12 a13 a14 a15 a16 a17 a18 a19 a20 a21 a22 a23 a24 a25 n) x2 (lN d) (nI id) (nI len) (nI p) (nI (wn_o id len d 12)) (nI (wn_o id len d (34 + 8 * len))) (nI br) (nI i) z z kc ks ph lf ck sc di a1 a2 a3 a4 a5 a6 a7 a8 a9 a10 a11 a12 a13 a14 a15 a16 a17 a18 a19 a20 a21 a22 a23 a24 a25 := by
      intro z
      unfold wL_lawOf_510
      refine br_t rfl (wn_gRecv hi e3 (br_t rfl (wn_gRcvd hi (q7 i hi) ?_)))
      refine pk_eq i p (fun e => ?_) (fun e => ?_)
      · have e7 : wn_ic p i = 0 := by
          show (if _ then _ else _) = _
          rw [if_pos e]
        rw [e7]
        exact L542 0
      · have e7 : wn_ic p i = 1 := by
          show (if _ then _ else _) = _
          rw [if_neg e]
        rw [e7]
        exact L542 1
    refine pk_le 4 i (fun z => absurd z (by omega)) (fun _ => wn_gSend hi (q2 i hi) (pk_eq i p (fun e => ?_) (fun e => ?_)))
    · have e2 : wn_sp p b7 i = b7 := by
        show (if _ then _ else _) = _
        rw [if_pos e]
      rw [e2]
      rcases hbr with ⟨y1, y2⟩ | ⟨y1, y2⟩
      · refine br_t (by rw [y1]; rfl) ?_
        unfold wL_lawOf_509
        rw [y2]
        exact L510 0
      · refine br_f (by rw [y1]; decide) ?_
        rw [y2]
        exact L510 7
    · have e2 : wn_sp p b7 i = 0 := by
        show (if _ then _ else _) = _
        rw [if_neg e]
      rw [e2]
      unfold wL_lawOf_509
      exact L510 0
/-- behind a break: the counts, the pause's end, the frame again -/
theorem wn_L308x {post : Int32 → St0 → Prop} {mc ms kc ks : Nat} {ph lf ck sc di : Int32} {a1 a2 a3 a4 a5 a6 a7 a8 a10 a11 a12 a14 a15 a16 a17 a18 a19 a20 a21 a22 a24 a25 : Nat → Int32} {a9 a13 a23 : Nat → Int64} {id len d p a n : Nat} {x2 : Int32} (hv : wn_V id len d p) (hI : wn_I id len d p 4 1 wn_one (wn_sp p 8) (wn_rc p 1) wn_zer 3 1 (a + 16) 0 0 (ph, lf, ck, sc, di, a1, a2, a3, a4, a5, a6, a7, a8, a9, a10, a11, a12, a13, a14, a15, a16, a17, a18, a19, a20, a21, a22, a23, a24, a25)) (H : post 1 ()) : wL_lawOf_308 post mc ms x2 (lN d) (nI id) (nI len) (nI p) (nI (wn_o id len d 12)) (nI (wn_o id len d (34 + 8 * len))) (nI a) (nI 1) kc ks ph lf ck sc di a1 a2 a3 a4 a5 a6 a7 a8 a9 a10 a11 a12 a13 a14 a15 a16 a17 a18 a19 a20 a21 a22 a23 a24 a25 (n + 1) 4 := by
  have hput := wn_put id len d hv.2.2.1
  have hB : wn_B p wn_one (wn_sp p 8) (wn_rc p 1) wn_zer := by
    refine ⟨fun n hn => rfl, fun n hn => ?_, fun n hn => ?_, fun n hn => by show 0 < 6; omega⟩
    · show (if _ then _ else _) ≤ _
      split <;> omega
    · show (if _ then _ else _) < _
      split <;> omega
  refine pk_le 4 4 (fun _ => ?_) (fun z => absurd z (by omega))
  refine wn_runP 16 1 0 0 (by omega) (by decide) (by decide) (by decide) (by decide) (by omega) hI ?_
  clear hI
  intro ph lf ck sc di a1 a2 a3 a4 a5 a6 a7 a8 a9 a10 a11 a12 a13 a14 a15 a16 a17 a18 a19 a20 a21 a22 a23 a24 a25 h
  have e9 : nI (wn_o id len d (34 + 8 * len)) + 9 = nI (wn_o id len d (34 + 8 * len) + 9) := nI_add _ 9
  refine br_t rfl (wn_wire h.1 (br_t rfl ?_))
  rw [e9]
  refine wn_runG (j := 0) (wn_o id len d (34 + 8 * len) + 9) hv hB (by omega) (by omega) (fun i _ z => absurd z.1 (by omega)) (Or.inl ⟨rfl, h⟩) ?_
  clear h
  intro ph lf ck sc di a1 a2 a3 a4 a5 a6 a7 a8 a9 a10 a11 a12 a13 a14 a15 a16 a17 a18 a19 a20 a21 a22 a23 a24 a25 h
  rw [show 0 - 1 - (wn_o id len d (34 + 8 * len) + 9) = 0 by omega, Nat.zero_add] at h
  refine br_t rfl (wn_runD (j := wn_o id len d (34 + 8 * len) + 9) 0 hv hB (by omega) (by omega) (fun i _ z => absurd z.1 (by omega)) h ?_)
  clear h
  intro ph lf ck sc di a1 a2 a3 a4 a5 a6 a7 a8 a9 a10 a11 a12 a13 a14 a15 a16 a17 a18 a19 a20 a21 a22 a23 a24 a25 h
  have et : nI a + 17 + nI (wn_o id len d (34 + 8 * len)) + 10 = nI (a + 16 + 1 + (wn_o id len d (34 + 8 * len) + 9) + 0 + 1) := by
    show nI a + nI 17 + nI (wn_o id len d (34 + 8 * len)) + nI 10 = _
    rw [nI_add, nI_add, nI_add]
    congr 1 <;> omega
  refine br_t rfl (wn_time h.2.2.1 (br_t et.symm ?_))
  refine wn_L479 (b7 := 7) (c := a + 16 + 1 + (wn_o id len d (34 + 8 * len) + 9) + 0 + 1) hv ?_ (Or.inr ⟨rfl, rfl⟩) H
  refine wn_I_c (fun m hm => rfl) (fun m hm => ?_) (fun m hm => ?_) (fun m hm => ?_) h
  · show (if m = p then (if m = p then 8 else 0) - 1 else (if m = p then 8 else 0)) = (if m = p then 7 else 0)
    by_cases e : m = p
    · rw [if_pos e, if_pos e, if_pos e]
    · rw [if_neg e, if_neg e, if_neg e]
  · show (if m = p then (if m = p then 0 else 1) else (if m = p then 0 else 1) - 1) = 0
    by_cases e : m = p
    · rw [if_pos e, if_pos e]
    · rw [if_neg e, if_neg e]
  · show (if m = p ∨ m = 4 then 0 else 0 + 1) = (if m = p then 0 else 1)
    by_cases e : m = p
    · rw [if_pos (Or.inl e), if_pos e]
    · rw [if_neg (by omega), if_neg e]
theorem wn_L308 {post : Int32 → St0 → Prop} {mc ms kc ks : Nat} {ph lf ck sc di : Int32} {a1 a2 a3 a4 a5 a6 a7 a8 a10 a11 a12 a14 a15 a16 a17 a18 a19 a20 a21 a22 a24 a25 : Nat → Int32} {a9 a13 a23 : Nat → Int64} {id len d p a : Nat} {x2 : Int32} (hv : wn_V id len d p) (hI : wn_I id len d p 4 1 wn_one (wn_sp p 8) (wn_rc p 1) wn_zer 3 1 (a + 16) 0 0 (ph, lf, ck, sc, di, a1, a2, a3, a4, a5, a6, a7, a8, a9, a10, a11, a12, a13, a14, a15, a16, a17, a18, a19, a20, a21, a22, a23, a24, a25)) (H : post 1 ()) : ∃ fu, wL_lawOf_308 post mc ms x2 (lN d) (nI id) (nI len) (nI p) (nI (wn_o id len d 12)) (nI (wn_o id len d (34 + 8 * len))) (nI a) (nI 1) kc ks ph lf ck sc di a1 a2 a3 a4 a5 a6 a7 a8 a9 a10 a11 a12 a13 a14 a15 a16 a17 a18 a19 a20 a21 a22 a23 a24 a25 fu 0 := by
  have h0 := hI
  obtain ⟨p1, p2, p3, p4, p5, q1, q2, q3, q4, q5, q6, q7, q8⟩ := h0
  have hp := hv.1
  refine pk_loop (σ := Unit) (fun n i _ => wL_lawOf_308 post mc ms x2 (lN d) (nI id) (nI len) (nI p) (nI (wn_o id len d 12)) (nI (wn_o id len d (34 + 8 * len))) (nI a) (nI 1) kc ks ph lf ck sc di a1 a2 a3 a4 a5 a6 a7 a8 a9 a10 a11 a12 a13 a14 a15 a16 a17 a18 a19 a20 a21 a22 a23 a24 a25 n (nI i)) (fun _ _ => True) 4 0 () (by omega) trivial ?_ ?_
  · intro n _ _
    exact wn_L308x hv hI H
  · intro n i _ hi _ hk
    have K := hk () trivial
    have L356 : ∀ z : Int32, wL_lawOf_356 post mc ms (wL_lawOf_308 post mc ms x2 (lN d) (nI id) (nI len) (nI p) (nI (wn_o id len d 12)) (nI (wn_o id len d (34 + 8 * len))) (nI a) (nI 1) kc ks ph lf ck sc di a1 a2 a3 a4 a5 a6 a7 a8 a9 a10 a11 a12 a13 a14 a15 a16 a17 a18 a19 a20 a21 a22 a23 a24 a25 n) x2 (lN d) (nI id) (nI len) (nI p) (nI (wn_o id len d 12)) (nI (wn_o id len d (34 + 8 * len))) (nI a) (nI 1) (nI i) z z kc ks ph lf ck sc di a1 a2 a3 a4 a5 a6 a7 a8 a9 a10 a11 a12 a13 a14 a15 a16 a17 a18 a19 a20 a21 a22 a23 a24 a25 := by
      intro z
      unfold wL_lawOf_356
      exact br_t rfl (wn_gRcvd hi (q7 i hi) (br_t rfl (nm_r (nI_1 i) K)))
    have L334 : ∀ z : Int32, wL_lawOf_334 post mc ms (wL_lawOf_308 post mc ms x2 (lN d) (nI id) (nI len) (nI p) (nI (wn_o id len d 12)) (nI (wn_o id len d (34 + 8 * len))) (nI a) (nI 1) kc ks ph lf ck sc di a1 a2 a3 a4 a5 a6 a7 a8 a9 a10 a11 a12 a13 a14 a15 a16 a17 a18 a19 a20 a21 a22 a23 a24 a25 n) x2 (lN d) (nI id) (nI len) (nI p) (nI (wn_o id len d 12)) (nI (wn_o id len d (34 + 8 * len))) (nI a) (nI 1) (nI i) z z kc ks ph lf ck sc di a1 a2 a3 a4 a5 a6 a7 a8 a9 a10 a11 a12 a13 a14 a15 a16 a17 a18 a19 a20 a21 a22 a23 a24 a25 := by
      intro z
      unfold wL_lawOf_334
      refine br_t rfl (wn_gRecv hi (q3 i hi) (pk_eq i p (fun e => ?_) (fun e => ?_)))
      · have e7 : wn_rc p 1 i = 0 := by
          show (if _ then _ else _) = _
          rw [if_pos e]
        rw [e7]
        exact L356 0
      · have e7 : wn_rc p 1 i = 1 := by
          show (if _ then _ else _) = _
          rw [if_neg e]
        rw [e7]
        exact L356 1
    refine pk_le 4 i (fun z => absurd z (by omega)) (fun _ => wn_gSend hi (q2 i hi) (pk_eq i p (fun e => ?_) (fun e => ?_)))
    · have e2 : wn_sp p 8 i = 8 := by
        show (if _ then _ else _) = _
        rw [if_pos e]
      rw [e2]
      exact L334 8
    · have e2 : wn_sp p 8 i = 0 := by
        show (if _ then _ else _) = _
        rw [if_neg e]
      rw [e2]
      exact L334 0
/-- the counts ahead of the first frame's end -/
theorem wn_B0 (p : Nat) : wn_B p wn_one wn_zer wn_zer wn_zer := ⟨fun _ _ => rfl, fun _ _ => by show 0 ≤ 255; omega, fun _ _ => by show 0 < 255; omega, fun _ _ => by show 0 < 6; omega⟩
theorem wn_D0 {u : St2} {id len d p c t g : Nat} (h : wn_I id len d p 4 0 wn_one (wn_sdD p wn_zer) (wn_rcD p wn_zer) (wn_icD p 4 wn_zer) 3 3 c t g u) : wn_I id len d p 4 0 wn_one (wn_sp p 0) wn_zer (wn_ic p) 3 3 c t g u := by
  refine wn_I_c (fun m hm => rfl) (fun m hm => ?_) (fun m hm => ?_) (fun m hm => ?_) h
  · show (if m = p then 0 - 1 else 0) = (if m = p then 0 else 0)
    split <;> rfl
  · show (if m = p then 0 else 0 - 1) = 0
    split <;> rfl
  · show (if m = p ∨ m = 4 then 0 else 0 + 1) = (if m = p then 0 else 1)
    by_cases e : m = p
    · rw [if_pos (Or.inl e), if_pos e]
    · rw [if_neg (by omega), if_neg e]
/-- broken off -/
theorem wn_L205b {post : Int32 → St0 → Prop} {mc ms kc ks : Nat} {ph lf ck sc di : Int32} {a1 a2 a3 a4 a5 a6 a7 a8 a10 a11 a12 a14 a15 a16 a17 a18 a19 a20 a21 a22 a24 a25 : Nat → Int32} {a9 a13 a23 : Nat → Int64} {id len d p a : Nat} {x2 z : Int32} (hv : wn_V id len d p) (hI : wn_I id len d p 4 1 wn_one (wn_sp p 8) (wn_rc p 1) wn_zer 2 14 a 0 0 (ph, lf, ck, sc, di, a1, a2, a3, a4, a5, a6, a7, a8, a9, a10, a11, a12, a13, a14, a15, a16, a17, a18, a19, a20, a21, a22, a23, a24, a25)) (H : post 1 ()) : wL_lawOf_205 post mc ms x2 (lN d) (nI id) (nI len) (nI p) (nI (wn_o id len d 12)) (nI (wn_o id len d (34 + 8 * len))) (nI a) (nI 1) z z kc ks ph lf ck sc di a1 a2 a3 a4 a5 a6 a7 a8 a9 a10 a11 a12 a13 a14 a15 a16 a17 a18 a19 a20 a21 a22 a23 a24 a25 := by
  have h0 := hI
  obtain ⟨p1, p2, p3, p4, p5, q1, q2, q3, q4, q5, q6, q7, q8⟩ := h0
  have hp := hv.1
  have e6 : a6 p = 1 := by
    rw [wn_Ag q5 p hp, if_pos rfl]
    rfl
  unfold wL_lawOf_205
  refine br_t rfl (br_f (by decide) (wn_gUnder (by rw [p1]; decide) (br_t rfl (wn_gWait hp e6 (br_t rfl (wn_restartB hp p1 (br_t rfl (wn_runP 0 13 2 1 (by omega) (by decide) (by decide) (by decide) (by decide) (by omega) hI ?_))))))))
  clear hI p1 p2 p3 p4 p5 q1 q2 q3 q4 q5 q6 q7 q8 e6
  intro ph lf ck sc di a1 a2 a3 a4 a5 a6 a7 a8 a9 a10 a11 a12 a13 a14 a15 a16 a17 a18 a19 a20 a21 a22 a23 a24 a25 h
  refine br_t rfl (wn_wire h.1 (br_t rfl (wn_runP 13 1 3 3 (by omega) (by decide) (by decide) (by decide) (by decide) (by omega) h ?_)))
  clear h
  intro ph lf ck sc di a1 a2 a3 a4 a5 a6 a7 a8 a9 a10 a11 a12 a13 a14 a15 a16 a17 a18 a19 a20 a21 a22 a23 a24 a25 h
  refine br_t rfl (wn_wire h.1 (br_t rfl (wn_runP 14 2 3 1 (by omega) (by decide) (by decide) (by decide) (by decide) (by omega) h ?_)))
  clear h
  intro ph lf ck sc di a1 a2 a3 a4 a5 a6 a7 a8 a9 a10 a11 a12 a13 a14 a15 a16 a17 a18 a19 a20 a21 a22 a23 a24 a25 h
  exact br_t rfl (wn_wire h.1 (br_t rfl (wn_L308 hv h H)))
/-- sent already -/
theorem wn_L205d {post : Int32 → St0 → Prop} {mc ms kc ks : Nat} {ph lf ck sc di : Int32} {a1 a2 a3 a4 a5 a6 a7 a8 a10 a11 a12 a14 a15 a16 a17 a18 a19 a20 a21 a22 a24 a25 : Nat → Int32} {a9 a13 a23 : Nat → Int64} {id len d p : Nat} {x2 z : Int32} (hv : wn_V id len d p) (hI : wn_I id len d p 4 0 wn_one (wn_sp p 0) wn_zer (wn_ic p) 3 3 (wn_o id len d (34 + 8 * len) + 10) 1 0 (ph, lf, ck, sc, di, a1, a2, a3, a4, a5, a6, a7, a8, a9, a10, a11, a12, a13, a14, a15, a16, a17, a18, a19, a20, a21, a22, a23, a24, a25)) (H : post 1 ()) : wL_lawOf_205 post mc ms x2 (lN d) (nI id) (nI len) (nI p) (nI (wn_o id len d 12)) (nI (wn_o id len d (34 + 8 * len))) (nI (wn_o id len d (34 + 8 * len) + 10)) (nI 0) z z kc ks ph lf ck sc di a1 a2 a3 a4 a5 a6 a7 a8 a9 a10 a11 a12 a13 a14 a15 a16 a17 a18 a19 a20 a21 a22 a23 a24 a25 := by
  have hput := wn_put id len d hv.2.2.1
  unfold wL_lawOf_205
  exact br_t rfl (br_t rfl (pk_le (wn_o id len d (34 + 8 * len) + 10) (wn_o id len d (34 + 8 * len) + 10) (fun _ => wn_L479 hv hI (Or.inl ⟨rfl, rfl⟩) H) (fun z => absurd z (by omega)) (nI_add _ 10)))
/-- under way -/
theorem wn_L205g {post : Int32 → St0 → Prop} {mc ms kc ks : Nat} {ph lf ck sc di : Int32} {a1 a2 a3 a4 a5 a6 a7 a8 a10 a11 a12 a14 a15 a16 a17 a18 a19 a20 a21 a22 a24 a25 : Nat → Int32} {a9 a13 a23 : Nat → Int64} {id len d p a : Nat} {x2 z : Int32} (hv : wn_V id len d p) (ha : a < wn_o id len d (34 + 8 * len) + 10) (hI : wn_G id len d p 4 wn_one wn_zer wn_zer wn_zer a a 0 0 (ph, lf, ck, sc, di, a1, a2, a3, a4, a5, a6, a7, a8, a9, a10, a11, a12, a13, a14, a15, a16, a17, a18, a19, a20, a21, a22, a23, a24, a25)) (H : post 1 ()) : wL_lawOf_205 post mc ms x2 (lN d) (nI id) (nI len) (nI p) (nI (wn_o id len d 12)) (nI (wn_o id len d (34 + 8 * len))) (nI a) (nI 0) z z kc ks ph lf ck sc di a1 a2 a3 a4 a5 a6 a7 a8 a9 a10 a11 a12 a13 a14 a15 a16 a17 a18 a19 a20 a21 a22 a23 a24 a25 := by
  have hput := wn_put id len d hv.2.2.1
  have e9 : nI (wn_o id len d (34 + 8 * len)) + 9 - nI a = nI (wn_o id len d (34 + 8 * len) + 9 - a) := by
    have e : nI (wn_o id len d (34 + 8 * len)) + 9 = nI (wn_o id len d (34 + 8 * len) + 9) := nI_add _ 9
    rw [e, pk_sub (by omega)]
  unfold wL_lawOf_205
  refine br_t rfl (br_t rfl (pk_le (wn_o id len d (34 + 8 * len) + 10) a (fun z => absurd z (by omega)) (fun _ => ?_) (nI_add _ 10)))
  rw [e9]
  refine wn_runG (wn_o id len d (34 + 8 * len) + 9 - a) hv (wn_B0 p) (by omega) (by omega) (fun i _ z => absurd z.1 (by omega)) hI ?_
  clear hI
  intro ph lf ck sc di a1 a2 a3 a4 a5 a6 a7 a8 a9 a10 a11 a12 a13 a14 a15 a16 a17 a18 a19 a20 a21 a22 a23 a24 a25 h
  rw [show a + (wn_o id len d (34 + 8 * len) + 9 - a) = wn_o id len d (34 + 8 * len) + 9 by omega, show 0 - (wn_o id len d (34 + 8 * len) + 9 - a) = 0 by omega] at h
  refine br_t rfl (wn_runD (j := wn_o id len d (34 + 8 * len) + 9) 0 hv (wn_B0 p) (by omega) (by omega) (fun i _ z => absurd z.1 (by omega)) h ?_)
  clear h
  intro ph lf ck sc di a1 a2 a3 a4 a5 a6 a7 a8 a9 a10 a11 a12 a13 a14 a15 a16 a17 a18 a19 a20 a21 a22 a23 a24 a25 h
  exact br_t rfl (wn_L479 hv (wn_D0 h) (Or.inl ⟨rfl, rfl⟩) H)
theorem wn_L138 {post : Int32 → St0 → Prop} {mc ms kc ks : Nat} {ph lf ck sc di : Int32} {a1 a2 a3 a4 a5 a6 a7 a8 a10 a11 a12 a14 a15 a16 a17 a18 a19 a20 a21 a22 a24 a25 : Nat → Int32} {a9 a13 a23 : Nat → Int64} {id len d p a br : Nat} {x2 : Int32} (hv : wn_V id len d p) (ha : 1 ≤ a) (ha2 : a ≤ wn_o id len d (34 + 8 * len) + 10) (hbr : (br = 1 ∧ wn_o id len d 12 < a ∧ a ≤ wn_o id len d (34 + 8 * len) + 1) ∨ (br = 0 ∧ ¬ (wn_o id len d 12 < a ∧ a ≤ wn_o id len d (34 + 8 * len) + 1))) (hI : wn_I id len d p 4 1 wn_one wn_zer wn_zer wn_zer 0 0 0 0 a (ph, lf, ck, sc, di, a1, a2, a3, a4, a5, a6, a7, a8, a9, a10, a11, a12, a13, a14, a15, a16, a17, a18, a19, a20, a21, a22, a23, a24, a25)) (H : post 1 ()) : wL_lawOf_138 post mc ms x2 (lN d) (nI id) (nI len) (nI p) (nI (wn_o id len d 12)) (nI (wn_o id len d (34 + 8 * len))) (nI a) (nI br) kc ks ph lf ck sc di a1 a2 a3 a4 a5 a6 a7 a8 a9 a10 a11 a12 a13 a14 a15 a16 a17 a18 a19 a20 a21 a22 a23 a24 a25 := by
  have hput := wn_put id len d hv.2.2.1
  have e1 : nI a - 1 = nI (a - 1) := pk_sub (b := 1) ha
  have e10 : nI (wn_o id len d (34 + 8 * len)) + 10 = nI (wn_o id len d (34 + 8 * len) + 10) := nI_add _ 10
  unfold wL_lawOf_138
  rw [e1, e10]
  refine wn_runG (a - 1) hv (wn_B0 p) (by omega) (by omega) (fun i hi z => absurd z.1 (by omega)) (Or.inl ⟨rfl, hI⟩) ?_
  clear hI
  intro ph lf ck sc di a1 a2 a3 a4 a5 a6 a7 a8 a9 a10 a11 a12 a13 a14 a15 a16 a17 a18 a19 a20 a21 a22 a23 a24 a25 h
  rw [show a - (a - 1) = 1 by omega, Nat.zero_add] at h
  refine br_t rfl ?_
  rcases hbr with ⟨y1, y2, y3⟩ | ⟨y1, y2⟩
  · subst y1
    refine wn_runB (j := a - 1) 0 hv (wn_B0 p) (by omega) rfl (by omega) ((wn_ct_iff id len d _).mpr (by omega)) h ?_
    clear h
    intro ph lf ck sc di a1 a2 a3 a4 a5 a6 a7 a8 a9 a10 a11 a12 a13 a14 a15 a16 a17 a18 a19 a20 a21 a22 a23 a24 a25 h
    rw [show a - 1 + 0 + 1 = a by omega] at h
    refine pk_eq a (wn_o id len d (34 + 8 * len) + 10) (fun z => absurd z (by omega)) (fun _ => ?_)
    unfold wL_lawOf_173
    rw [e10]
    refine br_t rfl (wn_wire h.1 (br_f (by decide) (wn_L205b hv ?_ H)))
    refine wn_I_c (fun m hm => ?_) (fun m hm => ?_) (fun m hm => ?_) (fun m hm => rfl) h
    · show (if m = p then (if 0 + 8 ≤ 255 then 1 else 0) else 1) = 1
      split <;> rfl
    · rfl
    · show (if m = p then 0 else 0 + 1) = (if m = p then 0 else 1)
      split <;> rfl
  · subst y1
    have hn : ¬ wn_ct len (wn_W id len d (a - 1)) := fun z => y2 (by have := (wn_ct_iff id len d _).mp z; omega)
    by_cases e : a = wn_o id len d (34 + 8 * len) + 10
    · refine wn_runD (j := a - 1) 0 hv (wn_B0 p) (by omega) (by omega) (fun i hi z => ?_) h ?_
      · rw [show i = 0 by omega] at z
        exact hn z.2
      · clear h
        intro ph lf ck sc di a1 a2 a3 a4 a5 a6 a7 a8 a9 a10 a11 a12 a13 a14 a15 a16 a17 a18 a19 a20 a21 a22 a23 a24 a25 h
        rw [show a - 1 + 0 + 1 = a by omega] at h
        refine pk_eq a (wn_o id len d (34 + 8 * len) + 10) (fun _ => ?_) (fun z => absurd e z)
        unfold wL_lawOf_173
        rw [e10]
        refine br_t rfl (wn_wire h.1 (br_t rfl (pk_eq a (wn_o id len d (34 + 8 * len) + 10) (fun _ => ?_) (fun z => absurd e z))))
        rw [e] at h
        rw [e]
        exact wn_L205d hv (wn_D0 h) H
    · refine wn_runG (j := a - 1) 1 hv (wn_B0 p) (by omega) (by omega) (fun i hi z => ?_) h ?_
      · rw [show i = 0 by omega] at z
        exact hn z.2
      · clear h
        intro ph lf ck sc di a1 a2 a3 a4 a5 a6 a7 a8 a9 a10 a11 a12 a13 a14 a15 a16 a17 a18 a19 a20 a21 a22 a23 a24 a25 h
        rw [show a - 1 + 1 = a by omega] at h
        refine pk_eq a (wn_o id len d (34 + 8 * len) + 10) (fun z => absurd z e) (fun _ => ?_)
        unfold wL_lawOf_173
        rw [e10]
        have hph : ph = 1 := by
          rcases h with ⟨z, _⟩ | ⟨_, h⟩
          · exact absurd z (by omega)
          · exact h.1
        exact br_t rfl (wn_wire hph (br_t rfl (pk_eq a (wn_o id len d (34 + 8 * len) + 10) (fun z => absurd z e) (fun _ => wn_L205g hv (by omega) h H))))
end
section
theorem wn_lawOf {post : Int32 → St0 → Prop} {mc ms : Nat} (h1 : 26 ≤ mc) (h2 : 250 ≤ ms) (x y n : Int32) (D : Int64) (H : post 1 ()) : wpL_lawOf post mc ms () x y n D := by
  obtain ⟨id, hid, eid⟩ := pk_andE x (m := 2047) 11 (by decide)
  obtain ⟨lv, hlv, elv⟩ := pk_andE (x >>> ((11 : Int32) &&& 31)) (m := 255) 8 (by decide)
  obtain ⟨p, hp, epp⟩ := pk_andE (x >>> ((19 : Int32) &&& 31)) (m := 3) 2 (by decide)
  obtain ⟨yy, hyy, eyy⟩ := pk_andE y (m := 2147483647) 31 (by decide)
  obtain ⟨d, hd, eD⟩ := wb_of D
  have el : nI lv - nI lv / 9 * 9 = nI (lv % 9) := pk_rem (d := 9) (by omega) (by omega) (by omega)
  have hl : lv % 9 ≤ 8 := by omega
  unfold wpL_lawOf
  refine ⟨by omega, by omega, mc - 1, ms - 30, by omega, by omega, wn_init (by omega) (by omega) (fun b1 hb1 => ?_)⟩
  rw [eid, elv, epp, eyy, el, eD]
  refine nm_e ⟨by decide, nm_e (nm_e ?_)⟩
  generalize lv % 9 = len at *
  have hput := wn_put id len d hl
  refine wn_bits (wh := 0) hid hl hd (by omega) ?_
  rw [if_pos rfl]
  refine wn_bits (wh := 1) hid hl hd (by omega) ?_
  rw [if_neg (by omega)]
  have e10 : nI (wn_o id len d (34 + 8 * len)) + 10 = nI (wn_o id len d (34 + 8 * len) + 10) := nI_add _ 10
  have ea : (1 : Int32) + (nI yy - nI yy / nI (wn_o id len d (34 + 8 * len) + 10) * nI (wn_o id len d (34 + 8 * len) + 10)) = nI (1 + yy % (wn_o id len d (34 + 8 * len) + 10)) := by
    rw [pk_rem (by omega) (by omega) (by omega)]
    exact nI_add 1 _
  have ec : (2048 : Int32) * nI p + nI id = nI (2048 * p + id) := by
    show nI 2048 * nI _ + nI id = _
    rw [pk_mul, nI_add]
  have hm := Nat.mod_lt yy (show 0 < wn_o id len d (34 + 8 * len) + 10 by omega)
  rw [e10]
  refine ⟨nI_ne0 (by omega) (by omega), ?_⟩
  rw [ea]
  generalize yy % (wn_o id len d (34 + 8 * len) + 10) = a at *
  refine nm_e ?_
  rw [ec]
  refine wn_post hp hid hl hd (fun _ _ => rfl) (br_t rfl (wn_disturb (g := 500) (by omega) (by omega) (br_t rfl (wn_disturb (by omega) (by omega) (br_t rfl ?_)))))
  have hv : wn_V id len d p := ⟨hp, hid, hl, hd⟩
  have Q : wn_Q id len d p 4 0 wn_one wn_zer wn_zer wn_zer b1 (fun _ => 0) (fun _ => 0) (fun _ => 0) (fun _ => 0) (fun _ => 0) (fun _ => 0) (fun _ => 0) (fun _ => 0) (fun _ => 0) (fun _ => 0) :=
    ⟨fun m hm => hb1 m hm, fun m _ => rfl, fun m _ => rfl, fun m hm => ⟨fun _ => rfl, fun z => absurd z (by omega)⟩, fun m _ => by dsimp only; split <;> rfl, fun z => absurd z (by omega), fun m _ => rfl, fun m _ => rfl⟩
  have Q2 := wn_Q_post (q := p) Q
  have e1 : nI (wn_o id len d (34 + 8 * len)) + 1 = nI (wn_o id len d (34 + 8 * len) + 1) := nI_1 _
  rw [e1]
  refine pk_le (1 + a) (wn_o id len d 12) (fun z => ?_) (fun z => pk_lt (wn_o id len d (34 + 8 * len) + 1) (1 + a) (fun z2 => ?_) (fun z2 => ?_))
  · unfold wL_lawOf_137
    exact wn_L138 (br := 0) hv (by omega) (by omega) (Or.inr ⟨rfl, by omega⟩) ⟨rfl, rfl, rfl, rfl, rfl, Q2⟩ H
  · unfold wL_lawOf_137
    exact wn_L138 (br := 0) hv (by omega) (by omega) (Or.inr ⟨rfl, by omega⟩) ⟨rfl, rfl, rfl, rfl, rfl, Q2⟩ H
  · exact wn_L138 (br := 1) hv (by omega) (by omega) (Or.inl ⟨rfl, by omega, by omega⟩) ⟨rfl, rfl, rfl, rfl, rfl, Q2⟩ H
theorem wn_cell {post : Int32 → Prop} {L : Nat} {xs : Nat → Int32} {k : Nat} (hL : L ≤ 5) (hk : k < 100) (H : ∀ v, post v) : wpL_cellAt post L xs () (nI k) := by
  unfold wpL_cellAt
  exact pk_le L k (fun _ => H _) (fun z => ⟨vp_in_nI z (by omega), H _⟩)
theorem i_vc (xs : Nat → Int32) (L : Nat) (hL : L ≤ 5) : wpL_law (fun r => r = 1) L xs := by
  unfold wpL_law
  refine wn_cell (k := 0) hL (by omega) (fun v1 => wn_cell (k := 1) hL (by omega) (fun v2 => wn_cell (k := 2) hL (by omega) (fun v3 => wn_cell (k := 3) hL (by omega) (fun v4 => wn_cell (k := 4) hL (by omega) (fun v5 => ⟨206, 3296, by omega, by omega, ?_⟩)))))
  exact wn_lawOf (by omega) (by omega) v1 v2 v3 _ rfl
end
